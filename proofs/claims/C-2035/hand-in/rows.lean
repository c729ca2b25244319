section
/-! rows pasted from the kit's PURE-ROWS (a starting text) -/
theorem pk_us {f : Nat → Int32} {k : Nat} {x : Int32} : upd f k x k = x := if_pos rfl
theorem pk_un {f : Nat → Int32} {k j : Nat} {x : Int32} (h : j ≠ k) : upd f k x j = f j := if_neg h
theorem pk_sub {a b : Nat} (h : b ≤ a) : nI a - nI b = nI (a - b) := by
  obtain ⟨c, rfl⟩ : ∃ c, a = c + b := ⟨a - b, by omega⟩
  rw [← nI_add, Int32.add_sub_cancel, Nat.add_sub_cancel]
theorem pk_m1 (n : Nat) : nI (n + 1) + (-1) = nI n := by
  rw [← nI_1, Int32.add_assoc, show (1 : Int32) + (-1) = 0 from rfl, Int32.add_zero]
theorem pk_mul (a b : Nat) : nI a * nI b = nI (a * b) := (Int32.ofNat_mul a b).symm
theorem pk_div {a d : Nat} (ha : a < 2 ^ 31) (h0 : 0 < d) (hd : d < 2 ^ 31) : nI a / nI d = nI (a / d) := by
  apply Int32.toInt_inj.mp
  rw [lg_idiv_nonneg (by rw [nI_toInt ha]; omega) (by rw [nI_toInt hd]; omega), nI_toInt ha, nI_toInt hd, nI_toInt (Nat.lt_of_le_of_lt (Nat.div_le_self a d) ha)]
  first | rfl | exact (Int.natCast_ediv _ _).symm
theorem pk_rem {a d : Nat} (ha : a < 2 ^ 31) (h0 : 0 < d) (hd : d < 2 ^ 31) : nI a - nI a / nI d * nI d = nI (a % d) := by
  rw [pk_div ha h0 hd, pk_mul, pk_sub (Nat.div_mul_le_self a d)]
  exact congrArg nI (by have := Nat.div_add_mod' a d; omega)
theorem pk_sub_toInt {a b : Nat} (ha : a < 2 ^ 30) (hb : b < 2 ^ 30) : (nI a - nI b).toInt = (a : Int) - b := by
  rw [Int32.toInt_sub, nI_toInt (by omega), nI_toInt (by omega)]
  exact Int.bmod_eq_of_le (by omega) (by omega)
theorem pk_sneg {a b : Nat} (hb : b < 2 ^ 30) (h : a < b) : nI a - nI b < 0 := by
  rw [Int32.lt_iff_toInt_lt, pk_sub_toInt (by omega) hb, show (0 : Int32).toInt = 0 from by decide]
  omega
theorem pk_ix (x : Int32) {n : Nat} (hn : n < 2 ^ 31) : x < 0 ∨ nI n ≤ x ∨ ∃ j : Nat, j < n ∧ x = nI j := by
  by_cases h : x < 0
  · exact Or.inl h
  · obtain ⟨j, hj, rfl⟩ := nI_of h
    by_cases h2 : j < n
    · exact Or.inr (Or.inr ⟨j, h2, rfl⟩)
    · exact Or.inr (Or.inl (nI_le (by omega) hj))
theorem pk_le {x y : Int32} {A B : Prop} (a b : Nat) (f : a ≤ b → A) (g : b < a → B) (hx : x = nI a := by rfl) (hy : y = nI b := by rfl) (ha : a < 2 ^ 31 := by omega) (hb : b < 2 ^ 31 := by omega) : (x ≤ y → A) ∧ (¬ x ≤ y → B) := by
  subst hx hy
  rw [nI_leI ha hb]
  exact ⟨f, fun z => g (by omega)⟩
theorem pk_lt {x y : Int32} {A B : Prop} (a b : Nat) (f : a < b → A) (g : b ≤ a → B) (hx : x = nI a := by rfl) (hy : y = nI b := by rfl) (ha : a < 2 ^ 31 := by omega) (hb : b < 2 ^ 31 := by omega) : (x < y → A) ∧ (¬ x < y → B) := by
  subst hx hy
  rw [nI_ltI ha hb]
  exact ⟨f, fun z => g (by omega)⟩
theorem pk_eq {x y : Int32} {A B : Prop} (a b : Nat) (f : a = b → A) (g : a ≠ b → B) (hx : x = nI a := by rfl) (hy : y = nI b := by rfl) (ha : a < 2 ^ 31 := by omega) (hb : b < 2 ^ 31 := by omega) : (x = y → A) ∧ (¬ x = y → B) := by
  subst hx hy
  rw [nI_eq ha hb]
  exact ⟨f, g⟩
theorem pk_in {x : Int32} (n N : Nat) (h : n < N) (hx : x = nI n := by rfl) (hN : N < 2 ^ 31 := by omega) : vp_in x N := by
  subst hx
  exact vp_in_nI h hN
theorem pk_cl {x : Int32} (n : Nat) (hx : x = nI n := by rfl) (h : n < 2 ^ 31 := by omega) : x.toNatClampNeg = n := by
  subst hx
  exact nI_clamp h
theorem pk_tn {n : Nat} (h : n < 2 ^ 32) : (nI n).toBitVec.toNat = n := Nat.mod_eq_of_lt h
theorem pk_and (x : Int32) {m : Int32} (k : Nat) (hm : m.toBitVec.toNat = 2 ^ k - 1) : x &&& m = nI (x.toBitVec.toNat % 2 ^ k) := by
  apply Int32.toBitVec_inj.mp
  apply BitVec.eq_of_toNat_eq
  rw [Int32.toBitVec_and, BitVec.toNat_and, hm, Nat.and_two_pow_sub_one_eq_mod]
  show _ = (BitVec.ofNat 32 _).toNat
  rw [BitVec.toNat_ofNat]
  exact (Nat.mod_eq_of_lt (Nat.lt_of_le_of_lt (Nat.mod_le _ _) x.toBitVec.isLt)).symm
theorem pk_andN {n : Nat} (h : n < 2 ^ 32) {m : Int32} (k : Nat) (hm : m.toBitVec.toNat = 2 ^ k - 1) : nI n &&& m = nI (n % 2 ^ k) := by
  rw [pk_and _ k hm, pk_tn h]
theorem pk_andE (x : Int32) {m : Int32} (k : Nat) (hm : m.toBitVec.toNat = 2 ^ k - 1) : ∃ j : Nat, j < 2 ^ k ∧ x &&& m = nI j := ⟨_, Nat.mod_lt _ (Nat.two_pow_pos k), pk_and x k hm⟩
theorem pk_andIn (x : Int32) {m : Int32} (k : Nat) (hm : m.toBitVec.toNat = 2 ^ k - 1) (hk : k ≤ 30) : vp_in (x &&& m) (2 ^ k) := by
  obtain ⟨j, hj, e⟩ := pk_andE x k hm
  rw [e]
  exact vp_in_nI hj (Nat.lt_of_le_of_lt (Nat.pow_le_pow_right (by decide) hk) (by decide))
theorem pk_shl (a s : Int32) (k : Nat) (hs : (s.toBitVec.smod 32).toNat = k) : (a <<< s).toBitVec.toNat = a.toBitVec.toNat * 2 ^ k % 2 ^ 32 := by
  show (a.toBitVec <<< (s.toBitVec.smod 32).toNat).toNat = _
  rw [hs, BitVec.toNat_shiftLeft, Nat.shiftLeft_eq]
theorem pk_shlN {n : Nat} (s : Int32) (k : Nat) (hs : (s.toBitVec.smod 32).toNat = k) (h : n * 2 ^ k < 2 ^ 32) : nI n <<< s = nI (n * 2 ^ k) := by
  apply Int32.toBitVec_inj.mp
  apply BitVec.eq_of_toNat_eq
  have hn : n < 2 ^ 32 := Nat.lt_of_le_of_lt (Nat.le_mul_of_pos_right n (Nat.two_pow_pos k)) h
  rw [pk_shl _ _ k hs, pk_tn hn, pk_tn h, Nat.mod_eq_of_lt h]
theorem pk_shr (a s : Int32) (k : Nat) (hs : (s.toBitVec.smod 32).toNat = k) : (a >>> s).toInt = a.toInt >>> k := by
  show (a.toBitVec.sshiftRight (s.toBitVec.smod 32).toNat).toInt = _
  rw [hs, BitVec.toInt_sshiftRight]
  rfl
theorem pk_shrN {n : Nat} (h : n < 2 ^ 31) (s : Int32) (k : Nat) (hs : (s.toBitVec.smod 32).toNat = k) : nI n >>> s = nI (n / 2 ^ k) := by
  apply Int32.toInt_inj.mp
  have h2 : n / 2 ^ k ≤ n := Nat.div_le_self _ _
  rw [pk_shr _ _ k hs, nI_toInt h, nI_toInt (by omega), Int.shiftRight_eq_div_pow]
  rfl
theorem pk_least (P : Nat → Prop) (h : ∃ k, P k) : ∃ k, P k ∧ ∀ j, j < k → ¬ P j := by
  obtain ⟨k, hk⟩ := h
  induction k using Nat.strongRecOn with
  | ind k ih =>
    by_cases e : ∃ j, j < k ∧ P j
    · obtain ⟨j, hj, pj⟩ := e
      exact ih j hj pj
    · exact ⟨k, hk, fun j hj pj => e ⟨j, hj, pj⟩⟩
theorem sb_shr0 (x : Int32) : x >>> ((0 : Int32) &&& 31) = x := by
  rw [show ((0 : Int32) &&& 31) = 0 by decide]
  simp
theorem sb_shl0 (x : Int32) : x <<< ((0 : Int32) &&& 31) = x := by
  rw [show ((0 : Int32) &&& 31) = 0 by decide]
  simp
theorem sb_cl0 : (0 : Int32).toNatClampNeg = 0 := by decide
theorem sb_m1 {p : Nat} (h : 0 < p) : nI p + (-1) = nI (p - 1) := by
  obtain ⟨q, rfl⟩ : ∃ q, p = q + 1 := ⟨p - 1, by omega⟩
  exact pk_m1 q
theorem sb_at {P : Int32 → Prop} {x y : Int32} (e : x = y) (h : P y) : P x := e ▸ h
end
section
/-! words as numbers: letters, slices, keys, paths -/
def ww_z (n : Nat) : Nat := if n < 8 then 0 else if n < 64 then 1 else if n < 512 then 2 else if n < 4096 then 3 else if n < 32768 then 4 else if n < 262144 then 5 else if n < 2097152 then 6 else 7
def ww_r (n : Nat) : Prop := n = 1 ∨ (8 ≤ n ∧ n < 16) ∨ (64 ≤ n ∧ n < 128) ∨ (512 ≤ n ∧ n < 1024) ∨ (4096 ≤ n ∧ n < 8192) ∨ (32768 ≤ n ∧ n < 65536) ∨ (262144 ≤ n ∧ n < 524288)
def ww_w (n : Nat) : Prop := ww_r n ∧ 1 < n
theorem ww_e0 {n : Nat} (h1 : 0 ≤ n) (h2 : n < 8) : ww_z n = 0 := by unfold ww_z; rw [if_pos h2]
theorem ww_e1 {n : Nat} (h1 : 8 ≤ n) (h2 : n < 64) : ww_z n = 1 := by unfold ww_z; rw [if_neg (by omega), if_pos h2]
theorem ww_e2 {n : Nat} (h1 : 64 ≤ n) (h2 : n < 512) : ww_z n = 2 := by unfold ww_z; rw [if_neg (by omega), if_neg (by omega), if_pos h2]
theorem ww_e3 {n : Nat} (h1 : 512 ≤ n) (h2 : n < 4096) : ww_z n = 3 := by unfold ww_z; rw [if_neg (by omega), if_neg (by omega), if_neg (by omega), if_pos h2]
theorem ww_e4 {n : Nat} (h1 : 4096 ≤ n) (h2 : n < 32768) : ww_z n = 4 := by unfold ww_z; rw [if_neg (by omega), if_neg (by omega), if_neg (by omega), if_neg (by omega), if_pos h2]
theorem ww_e5 {n : Nat} (h1 : 32768 ≤ n) (h2 : n < 262144) : ww_z n = 5 := by unfold ww_z; rw [if_neg (by omega), if_neg (by omega), if_neg (by omega), if_neg (by omega), if_neg (by omega), if_pos h2]
theorem ww_e6 {n : Nat} (h1 : 262144 ≤ n) (h2 : n < 2097152) : ww_z n = 6 := by unfold ww_z; rw [if_neg (by omega), if_neg (by omega), if_neg (by omega), if_neg (by omega), if_neg (by omega), if_neg (by omega), if_pos h2]
theorem ww_e7 {n : Nat} (h1 : 2097152 ≤ n) : ww_z n = 7 := by unfold ww_z; rw [if_neg (by omega), if_neg (by omega), if_neg (by omega), if_neg (by omega), if_neg (by omega), if_neg (by omega), if_neg (by omega)]
theorem ww_rc {n : Nat} (h : ww_r n) : ww_z n ≤ 6 ∧ 8 ^ ww_z n ≤ n ∧ n < 2 * 8 ^ ww_z n := by
  rcases h with h | h | h | h | h | h | h
  · rw [ww_e0 (by omega) (by omega)]; exact ⟨by decide, by omega, by omega⟩
  · rw [ww_e1 (by omega) (by omega)]; exact ⟨by decide, by omega, by omega⟩
  · rw [ww_e2 (by omega) (by omega)]; exact ⟨by decide, by omega, by omega⟩
  · rw [ww_e3 (by omega) (by omega)]; exact ⟨by decide, by omega, by omega⟩
  · rw [ww_e4 (by omega) (by omega)]; exact ⟨by decide, by omega, by omega⟩
  · rw [ww_e5 (by omega) (by omega)]; exact ⟨by decide, by omega, by omega⟩
  · rw [ww_e6 (by omega) (by omega)]; exact ⟨by decide, by omega, by omega⟩
theorem ww_rk {n k : Nat} (hk : k ≤ 6) (h1 : 8 ^ k ≤ n) (h2 : n < 2 * 8 ^ k) : ww_r n ∧ ww_z n = k := by
  have e : k = 0 ∨ k = 1 ∨ k = 2 ∨ k = 3 ∨ k = 4 ∨ k = 5 ∨ k = 6 := by omega
  unfold ww_r
  rcases e with rfl | rfl | rfl | rfl | rfl | rfl | rfl
  · exact ⟨by omega, ww_e0 (by omega) (by omega)⟩
  · exact ⟨by omega, ww_e1 (by omega) (by omega)⟩
  · exact ⟨by omega, ww_e2 (by omega) (by omega)⟩
  · exact ⟨by omega, ww_e3 (by omega) (by omega)⟩
  · exact ⟨by omega, ww_e4 (by omega) (by omega)⟩
  · exact ⟨by omega, ww_e5 (by omega) (by omega)⟩
  · exact ⟨by omega, ww_e6 (by omega) (by omega)⟩
theorem ww_lt {n : Nat} (h : ww_r n) : 0 < n ∧ n < 524288 := by unfold ww_r at h; omega
def ww_d (n i : Nat) : Nat := if i < ww_z n then n / 8 ^ (ww_z n - 1 - i) % 8 + 1 else 0
theorem ww_dp {n z i q : Nat} (hz : ww_z n = z) (hi : i < z) (hq : 8 ^ (z - 1 - i) = q) : ww_d n i = n / q % 8 + 1 := by unfold ww_d; rw [hz, if_pos hi, hq]
theorem ww_dn {n z i : Nat} (hz : ww_z n = z) (hi : z ≤ i) : ww_d n i = 0 := by unfold ww_d; rw [hz, if_neg (by omega)]
theorem ww_d8 (n i : Nat) : ww_d n i ≤ 8 := by unfold ww_d; split <;> omega
def ww_s (n j : Nat) : Nat := 9 * ww_d n (2 * j) + ww_d n (2 * j + 1)
def ww_k (n : Nat) : Nat := 6561 * ww_s n 0 + 81 * ww_s n 1 + ww_s n 2
def ww_l (n : Nat) : Nat := (ww_z n + 1) / 2
def ww_pt (n : Nat) : Nat → Nat
  | 0 => 0
  | j + 1 => 81 * ww_pt n j + ww_s n j
def ww_p (n : Nat) : Nat := ww_pt n (ww_l n)
def ww_u (x s : Nat) : Nat := if 0 < s % 9 then 8 * (8 * x + s / 9 - 1) + s % 9 - 1 else 8 * x + s / 9 - 1
def ww_f (n : Nat) : Nat → Nat
  | 0 => 1
  | j + 1 => ww_u (ww_f n j) (ww_s n j)
theorem ww_nf {n : Nat} (h : ww_w n) : (ww_z n = 1 ∧ ∃ a0 : Nat, a0 < 8 ∧ n = 8 + 1 * a0 ∧ ww_d n 0 = a0 + 1 ∧ ww_d n 1 = 0 ∧ ww_d n 2 = 0 ∧ ww_d n 3 = 0 ∧ ww_d n 4 = 0 ∧ ww_d n 5 = 0) ∨ (ww_z n = 2 ∧ ∃ a0 a1 : Nat, a0 < 8 ∧ a1 < 8 ∧ n = 64 + 8 * a0 + 1 * a1 ∧ ww_d n 0 = a0 + 1 ∧ ww_d n 1 = a1 + 1 ∧ ww_d n 2 = 0 ∧ ww_d n 3 = 0 ∧ ww_d n 4 = 0 ∧ ww_d n 5 = 0) ∨ (ww_z n = 3 ∧ ∃ a0 a1 a2 : Nat, a0 < 8 ∧ a1 < 8 ∧ a2 < 8 ∧ n = 512 + 64 * a0 + 8 * a1 + 1 * a2 ∧ ww_d n 0 = a0 + 1 ∧ ww_d n 1 = a1 + 1 ∧ ww_d n 2 = a2 + 1 ∧ ww_d n 3 = 0 ∧ ww_d n 4 = 0 ∧ ww_d n 5 = 0) ∨ (ww_z n = 4 ∧ ∃ a0 a1 a2 a3 : Nat, a0 < 8 ∧ a1 < 8 ∧ a2 < 8 ∧ a3 < 8 ∧ n = 4096 + 512 * a0 + 64 * a1 + 8 * a2 + 1 * a3 ∧ ww_d n 0 = a0 + 1 ∧ ww_d n 1 = a1 + 1 ∧ ww_d n 2 = a2 + 1 ∧ ww_d n 3 = a3 + 1 ∧ ww_d n 4 = 0 ∧ ww_d n 5 = 0) ∨ (ww_z n = 5 ∧ ∃ a0 a1 a2 a3 a4 : Nat, a0 < 8 ∧ a1 < 8 ∧ a2 < 8 ∧ a3 < 8 ∧ a4 < 8 ∧ n = 32768 + 4096 * a0 + 512 * a1 + 64 * a2 + 8 * a3 + 1 * a4 ∧ ww_d n 0 = a0 + 1 ∧ ww_d n 1 = a1 + 1 ∧ ww_d n 2 = a2 + 1 ∧ ww_d n 3 = a3 + 1 ∧ ww_d n 4 = a4 + 1 ∧ ww_d n 5 = 0) ∨ (ww_z n = 6 ∧ ∃ a0 a1 a2 a3 a4 a5 : Nat, a0 < 8 ∧ a1 < 8 ∧ a2 < 8 ∧ a3 < 8 ∧ a4 < 8 ∧ a5 < 8 ∧ n = 262144 + 32768 * a0 + 4096 * a1 + 512 * a2 + 64 * a3 + 8 * a4 + 1 * a5 ∧ ww_d n 0 = a0 + 1 ∧ ww_d n 1 = a1 + 1 ∧ ww_d n 2 = a2 + 1 ∧ ww_d n 3 = a3 + 1 ∧ ww_d n 4 = a4 + 1 ∧ ww_d n 5 = a5 + 1) := by
  obtain ⟨h, h1⟩ := h
  have q1 : n / 64 = n / 8 / 8 := by omega
  have q2 : n / 512 = n / 64 / 8 := by omega
  have q3 : n / 4096 = n / 512 / 8 := by omega
  have q4 : n / 32768 = n / 4096 / 8 := by omega
  have q5 : n / 262144 = n / 32768 / 8 := by omega
  rcases h with h | h | h | h | h | h | h
  · omega
  · have hz : ww_z n = 1 := ww_e1 (by omega) (by omega)
    exact Or.inl ⟨hz, n / 1 % 8, Nat.mod_lt _ (by decide), by omega, ww_dp hz (by decide) (by decide), ww_dn hz (by decide), ww_dn hz (by decide), ww_dn hz (by decide), ww_dn hz (by decide), ww_dn hz (by decide)⟩
  · have hz : ww_z n = 2 := ww_e2 (by omega) (by omega)
    exact Or.inr (Or.inl ⟨hz, n / 8 % 8, n / 1 % 8, Nat.mod_lt _ (by decide), Nat.mod_lt _ (by decide), by omega, ww_dp hz (by decide) (by decide), ww_dp hz (by decide) (by decide), ww_dn hz (by decide), ww_dn hz (by decide), ww_dn hz (by decide), ww_dn hz (by decide)⟩)
  · have hz : ww_z n = 3 := ww_e3 (by omega) (by omega)
    exact Or.inr (Or.inr (Or.inl ⟨hz, n / 64 % 8, n / 8 % 8, n / 1 % 8, Nat.mod_lt _ (by decide), Nat.mod_lt _ (by decide), Nat.mod_lt _ (by decide), by omega, ww_dp hz (by decide) (by decide), ww_dp hz (by decide) (by decide), ww_dp hz (by decide) (by decide), ww_dn hz (by decide), ww_dn hz (by decide), ww_dn hz (by decide)⟩))
  · have hz : ww_z n = 4 := ww_e4 (by omega) (by omega)
    exact Or.inr (Or.inr (Or.inr (Or.inl ⟨hz, n / 512 % 8, n / 64 % 8, n / 8 % 8, n / 1 % 8, Nat.mod_lt _ (by decide), Nat.mod_lt _ (by decide), Nat.mod_lt _ (by decide), Nat.mod_lt _ (by decide), by omega, ww_dp hz (by decide) (by decide), ww_dp hz (by decide) (by decide), ww_dp hz (by decide) (by decide), ww_dp hz (by decide) (by decide), ww_dn hz (by decide), ww_dn hz (by decide)⟩)))
  · have hz : ww_z n = 5 := ww_e5 (by omega) (by omega)
    exact Or.inr (Or.inr (Or.inr (Or.inr (Or.inl ⟨hz, n / 4096 % 8, n / 512 % 8, n / 64 % 8, n / 8 % 8, n / 1 % 8, Nat.mod_lt _ (by decide), Nat.mod_lt _ (by decide), Nat.mod_lt _ (by decide), Nat.mod_lt _ (by decide), Nat.mod_lt _ (by decide), by omega, ww_dp hz (by decide) (by decide), ww_dp hz (by decide) (by decide), ww_dp hz (by decide) (by decide), ww_dp hz (by decide) (by decide), ww_dp hz (by decide) (by decide), ww_dn hz (by decide)⟩))))
  · have hz : ww_z n = 6 := ww_e6 (by omega) (by omega)
    exact Or.inr (Or.inr (Or.inr (Or.inr (Or.inr (⟨hz, n / 32768 % 8, n / 4096 % 8, n / 512 % 8, n / 64 % 8, n / 8 % 8, n / 1 % 8, Nat.mod_lt _ (by decide), Nat.mod_lt _ (by decide), Nat.mod_lt _ (by decide), Nat.mod_lt _ (by decide), Nat.mod_lt _ (by decide), Nat.mod_lt _ (by decide), by omega, ww_dp hz (by decide) (by decide), ww_dp hz (by decide) (by decide), ww_dp hz (by decide) (by decide), ww_dp hz (by decide) (by decide), ww_dp hz (by decide) (by decide), ww_dp hz (by decide) (by decide)⟩)))))
theorem ww_inj {n m : Nat} (hn : ww_w n) (hm : ww_w m) (h0 : ww_s n 0 = ww_s m 0) (h1 : ww_s n 1 = ww_s m 1) (h2 : ww_s n 2 = ww_s m 2) : n = m := by
  unfold ww_s at h0 h1 h2
  simp only [Nat.mul_zero, Nat.zero_add, Nat.mul_one, Nat.reduceMul, Nat.reduceAdd] at h0 h1 h2
  have b0 := ww_d8 n 0
  have b1 := ww_d8 n 1
  have b2 := ww_d8 n 2
  have b3 := ww_d8 n 3
  have b4 := ww_d8 n 4
  have b5 := ww_d8 n 5
  have c0 := ww_d8 m 0
  have c1 := ww_d8 m 1
  have c2 := ww_d8 m 2
  have c3 := ww_d8 m 3
  have c4 := ww_d8 m 4
  have c5 := ww_d8 m 5
  have e0 : ww_d n 0 = ww_d m 0 := by omega
  have e1 : ww_d n 1 = ww_d m 1 := by omega
  have e2 : ww_d n 2 = ww_d m 2 := by omega
  have e3 : ww_d n 3 = ww_d m 3 := by omega
  have e4 : ww_d n 4 = ww_d m 4 := by omega
  have e5 : ww_d n 5 = ww_d m 5 := by omega
  clear h0 h1 h2 b0 b1 b2 b3 b4 b5 c0 c1 c2 c3 c4 c5
  rcases ww_nf hn with ⟨_, a0, _, rfl, f0, f1, f2, f3, f4, f5⟩ | ⟨_, a0, a1, _, _, rfl, f0, f1, f2, f3, f4, f5⟩ | ⟨_, a0, a1, a2, _, _, _, rfl, f0, f1, f2, f3, f4, f5⟩ | ⟨_, a0, a1, a2, a3, _, _, _, _, rfl, f0, f1, f2, f3, f4, f5⟩ | ⟨_, a0, a1, a2, a3, a4, _, _, _, _, _, rfl, f0, f1, f2, f3, f4, f5⟩ | ⟨_, a0, a1, a2, a3, a4, a5, _, _, _, _, _, _, rfl, f0, f1, f2, f3, f4, f5⟩ <;>
  rw [e0] at f0 <;> rw [e1] at f1 <;> rw [e2] at f2 <;> rw [e3] at f3 <;> rw [e4] at f4 <;> rw [e5] at f5 <;> clear e0 e1 e2 e3 e4 e5 <;>
  rcases ww_nf hm with ⟨_, b0, _, g, g0, g1, g2, g3, g4, g5⟩ | ⟨_, b0, b1, _, _, g, g0, g1, g2, g3, g4, g5⟩ | ⟨_, b0, b1, b2, _, _, _, g, g0, g1, g2, g3, g4, g5⟩ | ⟨_, b0, b1, b2, b3, _, _, _, _, g, g0, g1, g2, g3, g4, g5⟩ | ⟨_, b0, b1, b2, b3, b4, _, _, _, _, _, g, g0, g1, g2, g3, g4, g5⟩ | ⟨_, b0, b1, b2, b3, b4, b5, _, _, _, _, _, _, g, g0, g1, g2, g3, g4, g5⟩ <;>
  omega
theorem ww_l3 {n : Nat} (h : ww_w n) : 1 ≤ ww_l n ∧ ww_l n ≤ 3 := by
  have a := ww_rc h.1
  have b : ww_z n ≠ 0 := by
    intro e
    rw [e] at a
    have := h.2
    omega
  unfold ww_l
  omega
theorem ww_sb {n j : Nat} (hj : j < ww_l n) : 9 ≤ ww_s n j ∧ ww_s n j < 81 := by
  have b := ww_d8 n (2 * j)
  have c := ww_d8 n (2 * j + 1)
  have d : 1 ≤ ww_d n (2 * j) := by
    unfold ww_l at hj
    unfold ww_d
    rw [if_pos (by omega)]
    omega
  unfold ww_s
  omega
theorem ww_s0 {n j : Nat} (hj : ww_l n ≤ j) : ww_s n j = 0 := by
  unfold ww_l at hj
  unfold ww_s
  rw [ww_dn rfl (by omega), ww_dn rfl (by omega)]
theorem ww_s81 (n j : Nat) : ww_s n j < 81 := by
  have b := ww_d8 n (2 * j)
  have c := ww_d8 n (2 * j + 1)
  unfold ww_s
  omega
theorem ww_pt1 (n : Nat) : ww_pt n 1 = ww_s n 0 := by show 81 * 0 + ww_s n 0 = _; omega
theorem ww_pt2 (n : Nat) : ww_pt n 2 = 81 * ww_s n 0 + ww_s n 1 := by show 81 * ww_pt n 1 + ww_s n 1 = _; rw [ww_pt1]
theorem ww_pt3 (n : Nat) : ww_pt n 3 = 6561 * ww_s n 0 + 81 * ww_s n 1 + ww_s n 2 := by show 81 * ww_pt n 2 + ww_s n 2 = _; rw [ww_pt2]; omega
theorem ww_lc {n : Nat} (h : ww_w n) : ww_l n = 1 ∨ ww_l n = 2 ∨ ww_l n = 3 := by
  have := ww_l3 h
  omega
theorem ww_pinj {n m : Nat} (hn : ww_w n) (hm : ww_w m) (h : ww_p n = ww_p m) : n = m := by
  unfold ww_p at h
  have a0 := @ww_sb n 0
  have a1 := @ww_sb n 1
  have a2 := @ww_sb n 2
  have b0 := @ww_sb m 0
  have b1 := @ww_sb m 1
  have b2 := @ww_sb m 2
  have c0 := @ww_s0 n 0
  have c1 := @ww_s0 n 1
  have c2 := @ww_s0 n 2
  have d0 := @ww_s0 m 0
  have d1 := @ww_s0 m 1
  have d2 := @ww_s0 m 2
  rcases ww_lc hn with e | e | e <;> rcases ww_lc hm with g | g | g <;> rw [e, g] at h <;> simp only [ww_pt1, ww_pt2, ww_pt3] at h <;> rw [e] at a0 a1 a2 c0 c1 c2 <;> rw [g] at b0 b1 b2 d0 d1 d2 <;> first | (exfalso; omega) | exact ww_inj hn hm (by omega) (by omega) (by omega)
theorem ww_kinj {n m : Nat} (hn : ww_w n) (hm : ww_w m) (h : ww_k n = ww_k m) : n = m := by
  unfold ww_k at h
  have a0 := ww_s81 n 0
  have a1 := ww_s81 n 1
  have a2 := ww_s81 n 2
  have b0 := ww_s81 m 0
  have b1 := ww_s81 m 1
  have b2 := ww_s81 m 2
  exact ww_inj hn hm (by omega) (by omega) (by omega)
theorem ww_u2 {x a b : Nat} (ha : a < 8) (hb : b < 8) : ww_u x (9 * (a + 1) + (b + 1)) = 64 * x + 8 * a + b := by
  unfold ww_u
  rw [if_pos (by omega)]
  omega
theorem ww_u1 {x a : Nat} : ww_u x (9 * (a + 1)) = 8 * x + a := by
  unfold ww_u
  rw [if_neg (by omega)]
  omega
theorem ww_fn {n : Nat} (h : ww_w n) : ww_f n (ww_l n) = n := by
  rcases ww_nf h with ⟨z, a0, _, g, f0, f1, f2, f3, f4, f5⟩ | ⟨z, a0, a1, _, _, g, f0, f1, f2, f3, f4, f5⟩ | ⟨z, a0, a1, a2, _, _, _, g, f0, f1, f2, f3, f4, f5⟩ | ⟨z, a0, a1, a2, a3, _, _, _, _, g, f0, f1, f2, f3, f4, f5⟩ | ⟨z, a0, a1, a2, a3, a4, _, _, _, _, _, g, f0, f1, f2, f3, f4, f5⟩ | ⟨z, a0, a1, a2, a3, a4, a5, _, _, _, _, _, _, g, f0, f1, f2, f3, f4, f5⟩
  · have e : ww_l n = 1 := by unfold ww_l; omega
    have s0 : ww_s n 0 = 9 * (a0 + 1) := by show 9 * ww_d n 0 + ww_d n 1 = _; omega
    rw [e]
    show ww_u 1 (ww_s n 0) = n
    rw [s0, ww_u1]; omega
  · have e : ww_l n = 1 := by unfold ww_l; omega
    have s0 : ww_s n 0 = 9 * (a0 + 1) + (a1 + 1) := by show 9 * ww_d n 0 + ww_d n 1 = _; omega
    rw [e]
    show ww_u 1 (ww_s n 0) = n
    rw [s0, ww_u2 (by omega) (by omega)]; omega
  · have e : ww_l n = 2 := by unfold ww_l; omega
    have s0 : ww_s n 0 = 9 * (a0 + 1) + (a1 + 1) := by show 9 * ww_d n 0 + ww_d n 1 = _; omega
    have s1 : ww_s n 1 = 9 * (a2 + 1) := by show 9 * ww_d n 2 + ww_d n 3 = _; omega
    rw [e]
    show ww_u (ww_u 1 (ww_s n 0)) (ww_s n 1) = n
    rw [s0, ww_u2 (by omega) (by omega), s1, ww_u1]; omega
  · have e : ww_l n = 2 := by unfold ww_l; omega
    have s0 : ww_s n 0 = 9 * (a0 + 1) + (a1 + 1) := by show 9 * ww_d n 0 + ww_d n 1 = _; omega
    have s1 : ww_s n 1 = 9 * (a2 + 1) + (a3 + 1) := by show 9 * ww_d n 2 + ww_d n 3 = _; omega
    rw [e]
    show ww_u (ww_u 1 (ww_s n 0)) (ww_s n 1) = n
    rw [s0, ww_u2 (by omega) (by omega), s1, ww_u2 (by omega) (by omega)]; omega
  · have e : ww_l n = 3 := by unfold ww_l; omega
    have s0 : ww_s n 0 = 9 * (a0 + 1) + (a1 + 1) := by show 9 * ww_d n 0 + ww_d n 1 = _; omega
    have s1 : ww_s n 1 = 9 * (a2 + 1) + (a3 + 1) := by show 9 * ww_d n 2 + ww_d n 3 = _; omega
    have s2 : ww_s n 2 = 9 * (a4 + 1) := by show 9 * ww_d n 4 + ww_d n 5 = _; omega
    rw [e]
    show ww_u (ww_u (ww_u 1 (ww_s n 0)) (ww_s n 1)) (ww_s n 2) = n
    rw [s0, ww_u2 (by omega) (by omega), s1, ww_u2 (by omega) (by omega), s2, ww_u1]; omega
  · have e : ww_l n = 3 := by unfold ww_l; omega
    have s0 : ww_s n 0 = 9 * (a0 + 1) + (a1 + 1) := by show 9 * ww_d n 0 + ww_d n 1 = _; omega
    have s1 : ww_s n 1 = 9 * (a2 + 1) + (a3 + 1) := by show 9 * ww_d n 2 + ww_d n 3 = _; omega
    have s2 : ww_s n 2 = 9 * (a4 + 1) + (a5 + 1) := by show 9 * ww_d n 4 + ww_d n 5 = _; omega
    rw [e]
    show ww_u (ww_u (ww_u 1 (ww_s n 0)) (ww_s n 1)) (ww_s n 2) = n
    rw [s0, ww_u2 (by omega) (by omega), s1, ww_u2 (by omega) (by omega), s2, ww_u2 (by omega) (by omega)]; omega
/-- keys by digits -/
theorem ww_kd (n : Nat) : ww_k n = 59049 * ww_d n 0 + 6561 * ww_d n 1 + 729 * ww_d n 2 + 81 * ww_d n 3 + 9 * ww_d n 4 + ww_d n 5 := by
  have e0 : ww_s n 0 = 9 * ww_d n 0 + ww_d n 1 := rfl
  have e1 : ww_s n 1 = 9 * ww_d n 2 + ww_d n 3 := rfl
  have e2 : ww_s n 2 = 9 * ww_d n 4 + ww_d n 5 := rfl
  unfold ww_k
  omega
theorem ww_lexd {n m i : Nat} (hi : i < 6) (he : ∀ j, j < i → ww_d n j = ww_d m j) (h : ww_d n i < ww_d m i) : ww_k n < ww_k m := by
  rw [ww_kd, ww_kd]
  have b0 := ww_d8 n 0
  have b1 := ww_d8 n 1
  have b2 := ww_d8 n 2
  have b3 := ww_d8 n 3
  have b4 := ww_d8 n 4
  have b5 := ww_d8 n 5
  have c : i = 0 ∨ i = 1 ∨ i = 2 ∨ i = 3 ∨ i = 4 ∨ i = 5 := by omega
  rcases c with rfl | rfl | rfl | rfl | rfl | rfl
  · omega
  · have := he 0 (by omega); omega
  · have := he 0 (by omega); have := he 1 (by omega); omega
  · have := he 0 (by omega); have := he 1 (by omega); have := he 2 (by omega); omega
  · have := he 0 (by omega); have := he 1 (by omega); have := he 2 (by omega); have := he 3 (by omega); omega
  · have := he 0 (by omega); have := he 1 (by omega); have := he 2 (by omega); have := he 3 (by omega); have := he 4 (by omega); omega
theorem ww_led {n m : Nat} (he : ∀ j, j < 6 → ww_d n j = ww_d m j) : ww_k n = ww_k m := by
  rw [ww_kd, ww_kd, he 0 (by omega), he 1 (by omega), he 2 (by omega), he 3 (by omega), he 4 (by omega), he 5 (by omega)]
/-- keys by slices -/
theorem ww_lexs {n m i : Nat} (hi : i < 3) (he : ∀ j, j < i → ww_s n j = ww_s m j) (h : ww_s n i < ww_s m i) : ww_k n < ww_k m := by
  unfold ww_k
  have b0 := ww_s81 n 0
  have b1 := ww_s81 n 1
  have b2 := ww_s81 n 2
  have c : i = 0 ∨ i = 1 ∨ i = 2 := by omega
  rcases c with rfl | rfl | rfl
  · omega
  · have := he 0 (by omega); omega
  · have := he 0 (by omega); have := he 1 (by omega); omega
theorem ww_les {n m i : Nat} (hn : ww_w n) (hm : ww_w m) (hi : i ≤ ww_l n) (hj : i ≤ ww_l m) (hx : i = ww_l n ∨ i = ww_l m) (he : ∀ j, j < i → ww_s n j = ww_s m j) : ww_k n < ww_k m ↔ ww_l n < ww_l m := by
  have a := ww_l3 hn
  have b := ww_l3 hm
  constructor
  · intro h
    by_cases c : ww_l n < ww_l m
    · exact c
    · exfalso
      have d : i = ww_l m := by omega
      rcases Nat.lt_or_ge i (ww_l n) with f | f
      · have := ww_lexs (n := m) (m := n) (i := i) (by omega) (fun j hj => (he j hj).symm) (by rw [ww_s0 (n := m) (by omega)]; have := ww_sb f; omega)
        omega
      · have e : ∀ j, j < 3 → ww_s n j = ww_s m j := fun j _ => by
          rcases Nat.lt_or_ge j i with q | q
          · exact he j q
          · rw [ww_s0 (by omega), ww_s0 (by omega)]
        unfold ww_k at h
        rw [e 0 (by omega), e 1 (by omega), e 2 (by omega)] at h
        omega
  · intro h
    exact ww_lexs (i := i) (by omega) he (by rw [ww_s0 (n := n) (by omega)]; have := ww_sb (n := m) (j := i) (by omega); omega)
/-! beginnings -/
def ww_g (a b : Nat) : Prop := ww_z a ≤ ww_z b ∧ b / 8 ^ (ww_z b - ww_z a) = a
theorem ww_pre {a k : Nat} (h : ww_r a) (hk : k ≤ ww_z a) : ww_r (a / 8 ^ (ww_z a - k)) ∧ ww_z (a / 8 ^ (ww_z a - k)) = k := by
  obtain ⟨h6, h1, h2⟩ := ww_rc h
  have e : 8 ^ ww_z a = 8 ^ k * 8 ^ (ww_z a - k) := by rw [← Nat.pow_add]; congr 1; omega
  have p : 0 < 8 ^ (ww_z a - k) := Nat.pow_pos (by decide)
  refine ww_rk (by omega) ?_ ?_
  · rw [Nat.le_div_iff_mul_le p, ← e]; exact h1
  · rw [Nat.div_lt_iff_lt_mul p, Nat.mul_assoc, ← e]; exact h2
theorem ww_gr {a : Nat} : ww_g a a := ⟨Nat.le_refl _, by rw [Nat.sub_self, Nat.pow_zero, Nat.div_one]⟩
theorem ww_gp {a k : Nat} (h : ww_r a) (hk : k ≤ ww_z a) : ww_g (a / 8 ^ (ww_z a - k)) a := by
  have e := (ww_pre h hk).2
  unfold ww_g
  rw [e]
  exact ⟨hk, rfl⟩
theorem ww_gt {a b c : Nat} (h : ww_g a b) (g : ww_g b c) : ww_g a c := by
  obtain ⟨h1, h2⟩ := h
  obtain ⟨g1, g2⟩ := g
  refine ⟨Nat.le_trans h1 g1, ?_⟩
  have e : ww_z c - ww_z a = (ww_z c - ww_z b) + (ww_z b - ww_z a) := by omega
  rw [e, Nat.pow_add, ← Nat.div_div_eq_div_mul, g2, h2]
theorem ww_gg {a b c : Nat} (h : ww_g a c) (g : ww_g b c) (hz : ww_z a ≤ ww_z b) : ww_g a b := by
  obtain ⟨h1, h2⟩ := h
  obtain ⟨g1, g2⟩ := g
  refine ⟨hz, ?_⟩
  have e : ww_z c - ww_z a = (ww_z c - ww_z b) + (ww_z b - ww_z a) := by omega
  rw [e, Nat.pow_add, ← Nat.div_div_eq_div_mul, g2] at h2
  exact h2
theorem ww_ge {a b : Nat} (h : ww_g a b) (hz : ww_z a = ww_z b) : a = b := by
  obtain ⟨h1, h2⟩ := h
  rw [hz, Nat.sub_self, Nat.pow_zero, Nat.div_one] at h2
  exact h2.symm
theorem ww_ga {a b : Nat} (h : ww_g a b) (g : ww_g b a) : a = b := ww_ge h (Nat.le_antisymm h.1 g.1)
theorem ww_z1 {a : Nat} (h : ww_r a) (hz : ww_z a = 0) : a = 1 := by
  have := ww_rc h
  rw [hz] at this
  omega
theorem ww_g1 {b : Nat} (h : ww_r b) : ww_g 1 b := by
  have := ww_pre h (Nat.zero_le _)
  have e := ww_z1 this.1 this.2
  have z : ww_z 1 = 0 := ww_e0 (by omega) (by omega)
  unfold ww_g
  rw [z]
  exact ⟨Nat.zero_le _, e⟩
theorem ww_8 {a : Nat} (h : ww_r a) (hz : 0 < ww_z a) : ww_r (a / 8) ∧ ww_z (a / 8) = ww_z a - 1 := by
  have := ww_pre h (k := ww_z a - 1) (by omega)
  have e : ww_z a - (ww_z a - 1) = 1 := by omega
  rw [e, Nat.pow_one] at this
  exact this
theorem ww_g8 {a : Nat} (h : ww_r a) (hz : 0 < ww_z a) : ww_g (a / 8) a := by
  have := ww_gp h (k := ww_z a - 1) (by omega)
  have e : ww_z a - (ww_z a - 1) = 1 := by omega
  rw [e, Nat.pow_one] at this
  exact this
/-- the longest beginning of a that b begins with -/
def ww_c (b : Nat) : Nat → Nat → Nat
  | 0, a => a
  | n + 1, a => if ww_z a ≤ ww_z b ∧ b / 8 ^ (ww_z b - ww_z a) = a then a else ww_c b n (a / 8)
theorem ww_ct {b n a : Nat} (h : ww_g a b) : ww_c b n a = a := by
  cases n with
  | zero => rfl
  | succ n => exact if_pos h
theorem ww_cf {b n a : Nat} (h : ¬ ww_g a b) : ww_c b (n + 1) a = ww_c b n (a / 8) := if_neg h
theorem ww_cc {b : Nat} (hb : ww_r b) : ∀ n a : Nat, ww_r a → ww_z a ≤ n → ww_r (ww_c b n a) ∧ ww_g (ww_c b n a) a ∧ ww_g (ww_c b n a) b ∧ ∀ r, ww_g r a → ww_g r b → ww_g r (ww_c b n a) := by
  intro n
  induction n with
  | zero =>
    intro a ha hz
    have e := ww_z1 ha (by omega)
    subst e
    exact ⟨ha, ww_gr, ww_g1 hb, fun r h _ => h⟩
  | succ n ih =>
    intro a ha hz
    by_cases g : ww_g a b
    · rw [ww_ct g]
      exact ⟨ha, ww_gr, g, fun r h _ => h⟩
    · rw [ww_cf g]
      have h0 : 0 < ww_z a := by
        rcases Nat.eq_zero_or_pos (ww_z a) with q | q
        · rw [ww_z1 ha q] at g
          exact absurd (ww_g1 hb) g
        · exact q
      have h8 := ww_8 ha h0
      obtain ⟨i1, i2, i3, i4⟩ := ih (a / 8) h8.1 (by omega)
      refine ⟨i1, ww_gt i2 (ww_g8 ha h0), i3, fun r hr hs => i4 r ?_ hs⟩
      refine ww_gg hr (ww_g8 ha h0) ?_
      have h1 := hr.1
      have h2 : ww_z r ≠ ww_z a := fun q => g ((ww_ge hr q) ▸ hs)
      omega
/-- more fuel, the same -/
theorem ww_cn {b : Nat} (hb : ww_r b) : ∀ n a m : Nat, ww_r a → ww_z a ≤ n → n ≤ m → ww_c b m a = ww_c b n a := by
  intro n
  induction n with
  | zero =>
    intro a m ha hz hm
    have e := ww_z1 ha (by omega)
    subst e
    rw [ww_ct (ww_g1 hb), ww_ct (ww_g1 hb)]
  | succ n ih =>
    intro a m ha hz hm
    obtain ⟨k, rfl⟩ : ∃ k, m = k + 1 := ⟨m - 1, by omega⟩
    by_cases g : ww_g a b
    · rw [ww_ct g, ww_ct g]
    · rw [ww_cf g, ww_cf g]
      have h0 : 0 < ww_z a := by
        rcases Nat.eq_zero_or_pos (ww_z a) with q | q
        · rw [ww_z1 ha q] at g
          exact absurd (ww_g1 hb) g
        · exact q
      have h8 := ww_8 ha h0
      exact ih (a / 8) k h8.1 (by omega) (by omega)
end
section
/-! the walks that touch no state: X's sizeOf .. comesBefore, Y's letters .. before -/
theorem xw_if {c d A B : Prop} (e : c ↔ d) (f : d → A) (g : ¬ d → B) : (c → A) ∧ (¬ c → B) := ⟨fun h => f (e.mp h), fun h => g (fun k => h (e.mpr k))⟩
theorem xw_lt (r : Int32) {c : Nat} (h0 : 0 < c) (hc : c < 2 ^ 31) : r < nI c ↔ r.toNatClampNeg < c := by
  rw [Int32.lt_iff_toInt_lt, nI_toInt hc, ← Int32.toNat_toInt]; omega
theorem xw_ge (r : Int32) {c : Nat} (h0 : 0 < c) (hc : c < 2 ^ 31) : nI c ≤ r ↔ c ≤ r.toNatClampNeg := by
  rw [Int32.le_iff_toInt_le, nI_toInt hc, ← Int32.toNat_toInt]; omega
theorem xw_le (r : Int32) {c : Nat} (hc : c < 2 ^ 31) : r ≤ nI c ↔ r.toNatClampNeg ≤ c := by
  rw [Int32.le_iff_toInt_le, nI_toInt hc, ← Int32.toNat_toInt]; omega
theorem xw_of {r : Int32} (h : 0 < r.toNatClampNeg) : r = nI r.toNatClampNeg := by
  have h2 : (0 : Int32) ≤ r := by
    rw [← Int32.toNat_toInt] at h
    rw [Int32.le_iff_toInt_le, Int32.toInt_zero]; omega
  exact (Int32.ofNat_toNatClampNeg r h2).symm
theorem xw_2m (a : Nat) : 2 * nI a = nI (2 * a) := pk_mul 2 a
theorem xw_3m (a : Nat) : 3 * nI a = nI (3 * a) := pk_mul 3 a
theorem xw_4m (a : Nat) : 4 * nI a = nI (4 * a) := pk_mul 4 a
theorem xw_8m (a : Nat) : 8 * nI a = nI (8 * a) := pk_mul 8 a
theorem xw_9m (a : Nat) : 9 * nI a = nI (9 * a) := pk_mul 9 a
theorem xw_s1 {a : Nat} (h : 1 ≤ a) : nI a - 1 = nI (a - 1) := pk_sub (b := 1) h
theorem xw_s2 {a : Nat} (h : 2 ≤ a) : nI a - 2 = nI (a - 2) := pk_sub (b := 2) h
theorem xw_a4 (a : Nat) : nI a + 4 = nI (a + 4) := nI_add a 4
theorem xw_p2a (a : Nat) : 2 + nI a = nI (2 + a) := nI_add 2 a
theorem xw_sl : ∀ n, n < 32 → ((nI n &&& 31).toBitVec.smod 32).toNat = n := by decide +kernel
theorem xw_sh {n d : Nat} (hn : n < 2 ^ 31) (hd : d ≤ 10) : nI n >>> ((3 * nI d) &&& 31) = nI (n / 8 ^ d) := by
  rw [xw_3m, pk_shrN hn _ (3 * d) (xw_sl _ (by omega)), Nat.pow_mul]
theorem xw_a7 {n : Nat} (hn : n < 2 ^ 31) : nI n &&& 7 = nI (n % 8) := pk_andN (n := n) (by omega) 3 (by decide)
theorem xw_p8 {k : Nat} (h : k ≤ 9) : 0 < 8 ^ k ∧ 8 ^ k < 2 ^ 28 := ⟨Nat.pow_pos (by decide), Nat.lt_of_le_of_lt (Nat.pow_le_pow_right (by decide) h) (by decide)⟩
theorem xw_c1 : ∀ k, k < 7 → (1 : Int32) <<< (((3 * nI k) + 3) &&& 31) = nI (8 ^ (k + 1)) := by decide +kernel
theorem xw_c2 : ∀ k, k < 7 → (1 : Int32) <<< ((3 * nI k) &&& 31) = nI (8 ^ k) := by decide +kernel
theorem xw_c3 : ∀ k, k < 7 → (2 : Int32) <<< ((3 * nI k) &&& 31) = nI (2 * 8 ^ k) := by decide +kernel
theorem ww_z7 (n : Nat) : ww_z n ≤ 7 := by
  unfold ww_z
  repeat' split
  all_goals omega
theorem xw_so {post : Int32 → Prop} {x0 : Int32} {n k : Nat} (hk : k < 7) (h1 : x0.toNatClampNeg < 8 ^ (k + 1) → post (nI k)) (h2 : 8 ^ (k + 1) ≤ x0.toNatClampNeg → wX_sizeOf_2 post x0 n (nI (k + 1))) : wX_sizeOf_2 post x0 (n + 1) (nI k) := by
  have hp := xw_p8 (k := k + 1) (by omega)
  refine pk_le 7 k (fun h => absurd h (by omega)) (fun _ => ?_)
  exact xw_if (d := x0.toNatClampNeg < 8 ^ (k + 1)) (by rw [xw_c1 k hk]; exact xw_lt x0 hp.1 (by omega)) h1 (fun h => nm_r (nI_1 k) (h2 (by omega)))
theorem xw_sizeOf {post : Int32 → Prop} (r : Int32) (h : post (nI (ww_z r.toNatClampNeg))) : wpX_sizeOf post r := by
  refine ⟨8, ?_⟩
  show wX_sizeOf_2 post r 8 (nI 0)
  refine xw_so (k := 0) (by decide) (fun g => by rw [ww_e0 (Nat.zero_le _) g] at h; exact h) (fun g0 => ?_)
  refine xw_so (k := 1) (by decide) (fun g => by rw [ww_e1 g0 g] at h; exact h) (fun g1 => ?_)
  refine xw_so (k := 2) (by decide) (fun g => by rw [ww_e2 g1 g] at h; exact h) (fun g2 => ?_)
  refine xw_so (k := 3) (by decide) (fun g => by rw [ww_e3 g2 g] at h; exact h) (fun g3 => ?_)
  refine xw_so (k := 4) (by decide) (fun g => by rw [ww_e4 g3 g] at h; exact h) (fun g4 => ?_)
  refine xw_so (k := 5) (by decide) (fun g => by rw [ww_e5 g4 g] at h; exact h) (fun g5 => ?_)
  refine xw_so (k := 6) (by decide) (fun g => by rw [ww_e6 g5 g] at h; exact h) (fun g6 => ?_)
  exact br_t (by decide) (by rw [ww_e7 g6] at h; exact h)
theorem xw_sizeN {post : Int32 → Prop} {n : Nat} (hn : n < 2 ^ 31) (h : post (nI (ww_z n))) : wpX_sizeOf post (nI n) := xw_sizeOf _ (by rw [nI_clamp hn]; exact h)
theorem xw_isRow {post : Int32 → Prop} (r : Int32) (h1 : ww_r r.toNatClampNeg → post 1) (h0 : ¬ ww_r r.toNatClampNeg → post 0) : wpX_isRow post r := by
  unfold wpX_isRow
  refine xw_sizeOf r ?_
  have z7 := ww_z7 r.toNatClampNeg
  refine pk_lt 6 (ww_z r.toNatClampNeg) (fun h => h0 (fun q => by have := ww_rc q; omega)) (fun hz => ?_)
  have hp := xw_p8 (k := ww_z r.toNatClampNeg) (by omega)
  refine xw_if (d := r.toNatClampNeg < 8 ^ ww_z r.toNatClampNeg) (by rw [xw_c2 _ (by omega)]; exact xw_lt r hp.1 (by omega)) (fun h => h0 (fun q => by have := ww_rc q; omega)) (fun h => ?_)
  exact xw_if (d := 2 * 8 ^ ww_z r.toNatClampNeg ≤ r.toNatClampNeg) (by rw [xw_c3 _ (by omega)]; exact xw_ge r (by omega) (by omega)) (fun h => h0 (fun q => by have := ww_rc q; omega)) (fun h' => h1 (ww_rk hz (by omega) (by omega)).1)
theorem xw_isWord {post : Int32 → Prop} (r : Int32) (h1 : ww_w r.toNatClampNeg → post 1) (h0 : ¬ ww_w r.toNatClampNeg → post 0) : wpX_isWord post r := by
  unfold wpX_isWord
  refine xw_if (d := r.toNatClampNeg ≤ 1) (xw_le r (c := 1) (by decide)) (fun h => h0 (fun q => by have := q.2; omega)) (fun h => ?_)
  refine xw_isRow r (fun q => ?_) (fun q => ?_)
  · exact br_f (by decide) (h1 ⟨q, by omega⟩)
  · exact br_t rfl (h0 (fun z => q z.1))
theorem xw_layersOf {post : Int32 → Prop} {n : Nat} (hn : n < 2 ^ 31) (h : post (nI (ww_l n))) : wpX_layersOf post (nI n) := by
  unfold wpX_layersOf
  refine xw_sizeN hn ?_
  have z7 := ww_z7 n
  have e : (nI (ww_z n) + 1) >>> ((1 : Int32) &&& 31) = nI (ww_l n) := by
    rw [nI_1, pk_shrN (by omega) _ 1 (by decide)]; rfl
  rw [e]
  exact h
theorem xw_sliceOf {post : Int32 → Prop} {n j : Nat} (hw : ww_w n) (hj : j < ww_l n) (h : post (nI (ww_s n j))) : wpX_sliceOf post (nI n) (nI j) := by
  have hn : n < 2 ^ 31 := by have := ww_lt hw.1; omega
  have hz := (ww_rc hw.1).1
  have hj' : 2 * j + 1 ≤ ww_z n := by unfold ww_l at hj; omega
  have hd0 : ww_d n (2 * j) = n / 8 ^ (ww_z n - 1 - 2 * j) % 8 + 1 := ww_dp rfl (by omega) rfl
  unfold wpX_sliceOf
  refine xw_sizeN hn ?_
  have e1 : nI (ww_z n) - 1 - 2 * nI j = nI (ww_z n - 1 - 2 * j) := by rw [xw_s1 (by omega), xw_2m, pk_sub (by omega)]
  have q1 : n / 8 ^ (ww_z n - 1 - 2 * j) ≤ n := Nat.div_le_self _ _
  refine nm_r (e' := nI (n / 8 ^ (ww_z n - 1 - 2 * j) % 8)) (by rw [e1, xw_sh hn (by omega), xw_a7 (by omega)]) ?_
  refine xw_if (d := 2 * j + 1 < ww_z n) (by rw [xw_2m, nI_1]; exact nI_ltI (by omega) (by omega)) (fun hl => ?_) (fun hl => ?_)
  · have hd1 : ww_d n (2 * j + 1) = n / 8 ^ (ww_z n - 2 - 2 * j) % 8 + 1 := ww_dp rfl (by omega) (by congr 1; omega)
    have e2 : nI (ww_z n) - 2 - 2 * nI j = nI (ww_z n - 2 - 2 * j) := by rw [xw_s2 (by omega), xw_2m, pk_sub (by omega)]
    have q2 : n / 8 ^ (ww_z n - 2 - 2 * j) ≤ n := Nat.div_le_self _ _
    refine nm_r (e' := nI (n / 8 ^ (ww_z n - 2 - 2 * j) % 8)) (by rw [e2, xw_sh hn (by omega), xw_a7 (by omega)]) ?_
    rw [nI_1, xw_9m, nI_add, nI_1]
    have e3 : 9 * (n / 8 ^ (ww_z n - 1 - 2 * j) % 8 + 1) + n / 8 ^ (ww_z n - 2 - 2 * j) % 8 + 1 = ww_s n j := by unfold ww_s; rw [hd0, hd1]; omega
    rw [e3]
    exact h
  · rw [nI_1, xw_9m]
    have e3 : 9 * (n / 8 ^ (ww_z n - 1 - 2 * j) % 8 + 1) = ww_s n j := by unfold ww_s; rw [hd0, ww_dn rfl (by omega)]; rfl
    rw [e3]
    exact h
theorem xw_cb {post : Int32 → Prop} {a b m : Nat} (ha : ww_w a) (hb : ww_w b) (h1 : ww_k a < ww_k b → post 1) (h0 : ¬ ww_k a < ww_k b → post 0) (hma : m ≤ ww_l a) (hmb : m ≤ ww_l b) (hm : m = ww_l a ∨ m = ww_l b) : ∀ d i : Nat, i + d = m → (∀ j, j < i → ww_s a j = ww_s b j) → wX_comesBefore_25 post (nI a) (nI b) (nI m) (d + 1) (nI i) := by
  have la := ww_l3 ha
  have lb := ww_l3 hb
  have na : a < 2 ^ 31 := by have := ww_lt ha.1; omega
  have nb : b < 2 ^ 31 := by have := ww_lt hb.1; omega
  intro d
  induction d with
  | zero =>
    intro i hi he
    refine pk_le m i (fun _ => ?_) (fun q => absurd q (by omega))
    refine xw_layersOf na ?_
    refine xw_layersOf nb ?_
    have k := ww_les (i := i) ha hb (by omega) (by omega) (by omega) he
    exact pk_le (ww_l b) (ww_l a) (fun q => h0 (fun z => by have := k.mp z; omega)) (fun q => h1 (k.mpr q))
  | succ d ih =>
    intro i hi he
    refine pk_le m i (fun q => absurd q (by omega)) (fun _ => ?_)
    refine xw_sliceOf ha (by omega) ?_
    refine xw_sliceOf hb (by omega) ?_
    have sa := ww_s81 a i
    have sb := ww_s81 b i
    intro y ey
    have ty : y.toInt = (ww_s a i : Int) - ww_s b i := by rw [ey]; exact pk_sub_toInt (by omega) (by omega)
    refine xw_if (d := ww_s a i = ww_s b i) (by rw [← Int32.toInt_inj, ty, Int32.toInt_zero]; omega) (fun q => ?_) (fun q => ?_)
    · refine nm_r (nI_1 i) (ih (i + 1) (by omega) (fun j hj => ?_))
      rcases Nat.lt_or_ge j i with z | z
      · exact he j z
      · have : j = i := by omega
        subst this
        exact q
    · refine xw_if (d := ww_s b i ≤ ww_s a i) (by rw [Int32.le_iff_toInt_le, ty, Int32.toInt_zero]; omega) (fun z => h0 (fun c => ?_)) (fun z => h1 ?_)
      · have := ww_lexs (n := b) (m := a) (i := i) (by omega) (fun j hj => (he j hj).symm) (by omega)
        omega
      · exact ww_lexs (i := i) (by omega) he (by omega)
theorem xw_comesBefore {post : Int32 → Prop} {a b : Nat} (ha : ww_w a) (hb : ww_w b) (h1 : ww_k a < ww_k b → post 1) (h0 : ¬ ww_k a < ww_k b → post 0) : wpX_comesBefore post (nI a) (nI b) := by
  have la := ww_l3 ha
  have lb := ww_l3 hb
  have na : a < 2 ^ 31 := by have := ww_lt ha.1; omega
  have nb : b < 2 ^ 31 := by have := ww_lt hb.1; omega
  unfold wpX_comesBefore
  refine xw_layersOf na ?_
  refine xw_layersOf nb ?_
  refine pk_le (ww_l b) (ww_l a) (fun q => ?_) (fun q => ?_)
  · refine xw_layersOf nb ?_
    exact ⟨_, xw_cb ha hb h1 h0 q (Nat.le_refl _) (Or.inr rfl) (ww_l b) 0 (by omega) (fun j hj => absurd hj (by omega))⟩
  · refine xw_layersOf na ?_
    exact ⟨_, xw_cb ha hb h1 h0 (Nat.le_refl _) (by omega) (Or.inl rfl) (ww_l a) 0 (by omega) (fun j hj => absurd hj (by omega))⟩
theorem xw_begins {post : Int32 → Prop} {a w : Nat} (ha : a < 2 ^ 31) (hw : w < 2 ^ 31) (h1 : ww_g a w → post 1) (h0 : ¬ ww_g a w → post 0) : wpX_begins post (nI a) (nI w) := by
  have za := ww_z7 a
  have zw := ww_z7 w
  unfold wpX_begins
  refine xw_sizeN hw ?_
  refine xw_sizeN ha ?_
  rcases Nat.lt_or_ge (ww_z w) (ww_z a) with q | q
  · intro y ey
    exact br_t (by rw [ey]; exact pk_sneg (by omega) q) (h0 (fun z => by have := z.1; omega))
  · refine nm_r (pk_sub q) ?_
    refine br_f (nI_pos (by omega)) ?_
    have q2 : w / 8 ^ (ww_z w - ww_z a) ≤ w := Nat.div_le_self _ _
    exact xw_if (d := w / 8 ^ (ww_z w - ww_z a) = a) (by rw [xw_sh hw (by omega)]; exact nI_eq (by omega) ha) (fun e => h1 ⟨q, e⟩) (fun e => h0 (fun z => e z.2))
theorem xw_sh32 {post : Int32 → Prop} {a k : Nat} (ha : a < 2 ^ 31) (hk : k ≤ ww_z a) (h : post (nI (a / 8 ^ (ww_z a - k)))) : wX_shared_32 post (nI a) (nI k) := by
  have za := ww_z7 a
  unfold wX_shared_32
  refine xw_sizeN ha ?_
  rw [pk_sub hk, xw_sh ha (by omega)]
  exact h
theorem xw_sh5 {post : Int32 → Prop} {a b : Nat} (ha : a < 2 ^ 31) (hb : b < 2 ^ 31) : ∀ k : Nat, k ≤ ww_z a → post (nI (ww_c b k (a / 8 ^ (ww_z a - k)))) → wX_shared_5 post (nI a) (nI b) (k + 1) (nI k) := by
  have za := ww_z7 a
  intro k
  induction k with
  | zero =>
    intro hk h
    exact br_t (by decide) (xw_sh32 (k := 0) ha hk h)
  | succ k ih =>
    intro hk h
    refine br_f (nI_nle (by omega) (by omega)) ?_
    refine xw_sizeN ha ?_
    have q2 : a / 8 ^ (ww_z a - (k + 1)) ≤ a := Nat.div_le_self _ _
    rw [pk_sub hk, xw_sh ha (by omega)]
    refine xw_begins (by omega) hb (fun g => ?_) (fun g => ?_)
    · exact br_f (by decide) (xw_sh32 ha hk (by rw [ww_ct g] at h; exact h))
    · refine br_t rfl (nm_r (pk_m1 k) (ih (by omega) ?_))
      rw [ww_cf g, Nat.div_div_eq_div_mul, ← Nat.pow_succ] at h
      have e : ww_z a - (k + 1) + 1 = ww_z a - k := by omega
      rw [Nat.succ_eq_add_one, e] at h
      exact h
theorem xw_shared {post : Int32 → Prop} {a b : Nat} (ha : a < 2 ^ 31) (hb : b < 2 ^ 31) (h : post (nI (ww_c b (ww_z a) a))) : wpX_shared post (nI a) (nI b) := by
  unfold wpX_shared
  refine xw_sizeN ha ?_
  exact ⟨_, xw_sh5 ha hb (ww_z a) (Nat.le_refl _) (by rw [Nat.sub_self, Nat.pow_zero, Nat.div_one]; exact h)⟩
/-! Y -/
theorem yw_ls {post : Int32 → Prop} {r fc : Int32} {aw av : Nat → Int32} {n k : Nat} (hk : k < 7) (h1 : 8 ^ k ≤ r.toNatClampNeg → r.toNatClampNeg < 2 * 8 ^ k → post (nI k)) (h2 : ¬ (8 ^ k ≤ r.toNatClampNeg ∧ r.toNatClampNeg < 2 * 8 ^ k) → wY_letters_4 post r fc aw av n (nI (8 ^ (k + 1))) (nI (k + 1))) : wY_letters_4 post r fc aw av (n + 1) (nI (8 ^ k)) (nI k) := by
  have hp := xw_p8 (k := k) (by omega)
  have e8 : 8 * nI (8 ^ k) = nI (8 ^ (k + 1)) := by rw [xw_8m, Nat.pow_succ, Nat.mul_comm]
  refine pk_le 7 k (fun h => absurd h (by omega)) (fun _ => ?_)
  refine xw_if (d := r.toNatClampNeg < 8 ^ k) (xw_lt r hp.1 (by omega)) (fun q => nm_r e8 (nm_r (nI_1 k) (h2 (by omega)))) (fun q => ?_)
  exact xw_if (d := 2 * 8 ^ k ≤ r.toNatClampNeg) (by rw [xw_2m]; exact xw_ge r (by omega) (by omega)) (fun z => nm_r e8 (nm_r (nI_1 k) (h2 (by omega)))) (fun z => h1 (by omega) (by omega))
theorem yw_letters {post : Int32 → Prop} {v : SY} (r : Int32) (h1 : ww_r r.toNatClampNeg → post (nI (ww_z r.toNatClampNeg))) (h0 : ¬ ww_r r.toNatClampNeg → post (-1)) : wpY_letters post v r := by
  obtain ⟨fc, aw, av⟩ := v
  have H : ∀ k, k < 7 → 8 ^ k ≤ r.toNatClampNeg → r.toNatClampNeg < 2 * 8 ^ k → post (nI k) := fun k hk a b => by
    have := ww_rk (n := r.toNatClampNeg) (k := k) (by omega) a b
    have h := h1 this.1
    rw [this.2] at h
    exact h
  refine ⟨8, ?_⟩
  show wY_letters_4 post r fc aw av 8 (nI (8 ^ 0)) (nI 0)
  refine yw_ls (by decide) (H 0 (by decide)) (fun g0 => ?_)
  refine yw_ls (by decide) (H 1 (by decide)) (fun g1 => ?_)
  refine yw_ls (by decide) (H 2 (by decide)) (fun g2 => ?_)
  refine yw_ls (by decide) (H 3 (by decide)) (fun g3 => ?_)
  refine yw_ls (by decide) (H 4 (by decide)) (fun g4 => ?_)
  refine yw_ls (by decide) (H 5 (by decide)) (fun g5 => ?_)
  refine yw_ls (by decide) (H 6 (by decide)) (fun g6 => ?_)
  refine br_t (by decide) (h0 (fun q => ?_))
  unfold ww_r at q
  omega
theorem yw_badWord {post : Int32 → Prop} {v : SY} (r : Int32) (h1 : ww_w r.toNatClampNeg → post 0) (h0 : ¬ ww_w r.toNatClampNeg → post 1) : wpY_badWord post v r := by
  obtain ⟨fc, aw, av⟩ := v
  unfold wpY_badWord
  refine yw_letters r (fun q => ?_) (fun q => ?_)
  · have z7 := ww_z7 r.toNatClampNeg
    refine pk_le 1 (ww_z r.toNatClampNeg) (fun z => h1 ⟨q, ?_⟩) (fun z => h0 (fun c => ?_))
    · have := ww_rc q
      have e := Nat.pow_le_pow_right (show 0 < 8 by decide) z
      omega
    · have e := ww_z1 q (by omega)
      have := c.2
      omega
  · exact br_f (by decide) (h0 (fun z => q z.1))
theorem yw_badRow {post : Int32 → Prop} {v : SY} (r : Int32) (h1 : ww_r r.toNatClampNeg → post 0) (h0 : ¬ ww_r r.toNatClampNeg → post 1) : wpY_badRow post v r := by
  obtain ⟨fc, aw, av⟩ := v
  unfold wpY_badRow
  refine yw_letters r (fun q => ?_) (fun q => ?_)
  · have z7 := ww_z7 r.toNatClampNeg
    exact br_t (nI_pos' (by omega)) (h1 q)
  · exact br_f (by decide) (h0 q)
theorem yw_letN {post : Int32 → Prop} {v : SY} {n : Nat} (hn : ww_r n) (h : post (nI (ww_z n))) : wpY_letters post v (nI n) := by
  have l := ww_lt hn
  have e : (nI n).toNatClampNeg = n := nI_clamp (by omega)
  exact yw_letters _ (fun _ => by rw [e]; exact h) (fun q => absurd (by rw [e]; exact hn) q)
theorem yw_letter {post : Int32 → Prop} {v : SY} {w i : Nat} (hw : ww_w w) (hi : i < 6) (h : post (nI (ww_d w i) - 1)) : wpY_letter post v (nI w) (nI i) := by
  obtain ⟨fc, aw, av⟩ := v
  have hn := ww_lt hw.1
  have hz := (ww_rc hw.1).1
  unfold wpY_letter
  refine yw_letN hw.1 ?_
  refine pk_le (ww_z w) i (fun q => ?_) (fun q => ?_)
  · rw [ww_dn rfl q] at h
    exact h
  · rw [ww_dp rfl q rfl, nI_pred] at h
    have q1 : w / 8 ^ (ww_z w - 1 - i) ≤ w := Nat.div_le_self _ _
    rw [xw_s1 (by omega), pk_sub (by omega), xw_sh (by omega) (by omega), xw_a7 (by omega)]
    exact h
theorem yw_dg : ∀ d, d < 9 → ∀ e, e < 9 → ((nI d - 1 = nI e - 1 ↔ d = e) ∧ (nI e - 1 ≤ nI d - 1 ↔ e ≤ d)) := by decide +kernel
theorem yw_bf {post : Int32 → Prop} {a b : Nat} {fc : Int32} {aw av : Nat → Int32} (ha : ww_w a) (hb : ww_w b) (h1 : ww_k a < ww_k b → post 1) (h0 : ¬ ww_k a < ww_k b → post 0) : ∀ d i : Nat, i + d = 6 → (∀ j, j < i → ww_d a j = ww_d b j) → wY_before_2 post (nI a) (nI b) fc aw av (d + 1) (nI i) := by
  intro d
  induction d with
  | zero =>
    intro i hi he
    refine pk_le 6 i (fun _ => h0 (fun q => ?_)) (fun q => absurd q (by omega))
    have := ww_led (n := a) (m := b) (fun j hj => he j (by omega))
    omega
  | succ d ih =>
    intro i hi he
    refine pk_le 6 i (fun q => absurd q (by omega)) (fun _ => ?_)
    refine yw_letter ha (by omega) ?_
    refine yw_letter hb (by omega) ?_
    have da := ww_d8 a i
    have db := ww_d8 b i
    have k := yw_dg (ww_d a i) (by omega) (ww_d b i) (by omega)
    refine xw_if k.1 (fun q => ?_) (fun q => ?_)
    · refine nm_r (nI_1 i) (ih (i + 1) (by omega) (fun j hj => ?_))
      rcases Nat.lt_or_ge j i with z | z
      · exact he j z
      · have : j = i := by omega
        subst this
        exact q
    · refine xw_if k.2 (fun z => h0 (fun c => ?_)) (fun z => h1 ?_)
      · have := ww_lexd (n := b) (m := a) (i := i) (by omega) (fun j hj => (he j hj).symm) (by omega)
        omega
      · exact ww_lexd (i := i) (by omega) he (by omega)
theorem yw_before {post : Int32 → Prop} {v : SY} {a b : Nat} (ha : ww_w a) (hb : ww_w b) (h1 : ww_k a < ww_k b → post 1) (h0 : ¬ ww_k a < ww_k b → post 0) : wpY_before post v (nI a) (nI b) := by
  obtain ⟨fc, aw, av⟩ := v
  exact ⟨7, yw_bf ha hb h1 h0 6 0 (by omega) (fun j hj => absurd hj (by omega))⟩
theorem yw_begins {post : Int32 → Prop} {v : SY} {a w : Nat} (ha : ww_r a) (hw : ww_r w) (h1 : ww_g a w → post 1) (h0 : ¬ ww_g a w → post 0) : wpY_begins post v (nI a) (nI w) := by
  obtain ⟨fc, aw, av⟩ := v
  have za := ww_z7 a
  have zw := ww_z7 w
  have na := ww_lt ha
  have nw := ww_lt hw
  unfold wpY_begins
  refine yw_letN ha ?_
  refine yw_letN hw ?_
  refine pk_lt (ww_z w) (ww_z a) (fun q => h0 (fun z => by have := z.1; omega)) (fun q => ?_)
  have q2 : w / 8 ^ (ww_z w - ww_z a) ≤ w := Nat.div_le_self _ _
  exact xw_if (d := w / 8 ^ (ww_z w - ww_z a) = a) (by rw [pk_sub q, xw_sh (by omega) (by omega)]; exact nI_eq (by omega) (by omega)) (fun e => h1 ⟨q, e⟩) (fun e => h0 (fun z => e z.2))
end
section
/-! the abstract state: words with values, sorted by key -/
def kk_S (K : List (Nat × Int32)) : Prop := (∀ a ∈ K, ww_w a.1) ∧ K.Pairwise (fun a b => ww_k a.1 < ww_k b.1) ∧ K.length ≤ 40
def kk_H (ws vs : Nat → Int32) (L : List (Nat × Int32)) : Prop := ∀ (i : Nat) (a : Nat × Int32), L[i]? = some a → ws i = nI a.1 ∧ vs i = a.2
def kk_Y (K : List (Nat × Int32)) (v : SY) : Prop := ∃ L : List (Nat × Int32), L.Perm K ∧ v.1 = nI K.length ∧ kk_H v.2.1 v.2.2 L
def kk_set (K : List (Nat × Int32)) (w : Nat) (x : Int32) : List (Nat × Int32) := K.map (fun a => if a.1 = w then (w, x) else a)
def kk_ins (K : List (Nat × Int32)) (w : Nat) (x : Int32) : List (Nat × Int32) := K.filter (fun a => decide (ww_k a.1 < ww_k w)) ++ (w, x) :: K.filter (fun a => decide (ww_k w < ww_k a.1))
def kk_del (K : List (Nat × Int32)) (w : Nat) : List (Nat × Int32) := K.filter (fun a => decide (a.1 ≠ w))
def kk_g (r : Nat) (a : Nat × Int32) : Bool := decide (ww_z r ≤ ww_z a.1 ∧ a.1 / 8 ^ (ww_z a.1 - ww_z r) = r)
theorem kk_gt {r : Nat} {a : Nat × Int32} (h : ww_g r a.1) : kk_g r a = true := decide_eq_true h
theorem kk_gf {r : Nat} {a : Nat × Int32} (h : ¬ ww_g r a.1) : kk_g r a = false := decide_eq_false h
theorem kk_gi {r : Nat} {a : Nat × Int32} : kk_g r a = true ↔ ww_g r a.1 := decide_eq_true_iff
theorem kk_uq : ∀ {K : List (Nat × Int32)}, K.Pairwise (fun a b => ww_k a.1 < ww_k b.1) → ∀ a ∈ K, ∀ b ∈ K, a.1 = b.1 → a = b := by
  intro K
  induction K with
  | nil => intro _ a ha; cases ha
  | cons c K ih =>
    intro h a ha b hb e
    have h1 := (List.pairwise_cons.mp h).1
    have h2 := (List.pairwise_cons.mp h).2
    rcases List.mem_cons.mp ha with p | p <;> rcases List.mem_cons.mp hb with q | q
    · rw [p, q]
    · have := h1 b q
      rw [← p, e] at this
      omega
    · have := h1 a p
      rw [← q, e] at this
      omega
    · exact ih h2 a p b q e
theorem kk_nd {K : List (Nat × Int32)} (h : K.Pairwise (fun a b => ww_k a.1 < ww_k b.1)) : K.Nodup := h.imp (fun {a b} q z => by rw [z] at q; omega)
theorem kk_set_S {K : List (Nat × Int32)} {w : Nat} {x : Int32} (h : kk_S K) : kk_S (kk_set K w x) := by
  obtain ⟨h1, h2, h3⟩ := h
  have f : ∀ a : Nat × Int32, (if a.1 = w then (w, x) else a).1 = a.1 := fun a => by
    by_cases q : a.1 = w
    · rw [if_pos q]; exact q.symm
    · rw [if_neg q]
  refine ⟨fun a ha => ?_, ?_, ?_⟩
  · obtain ⟨b, hb, rfl⟩ := List.mem_map.mp ha
    rw [f b]
    exact h1 b hb
  · refine List.pairwise_map.mpr (h2.imp (fun {a b} q => ?_))
    rw [f a, f b]
    exact q
  · unfold kk_set
    rw [List.length_map]
    exact h3
theorem kk_set_mem {K : List (Nat × Int32)} {w : Nat} {x : Int32} {a : Nat × Int32} (hw : ∃ y, (w, y) ∈ K) : a ∈ kk_set K w x ↔ (a ∈ K ∧ a.1 ≠ w) ∨ a = (w, x) := by
  unfold kk_set
  rw [List.mem_map]
  constructor
  · rintro ⟨b, hb, e⟩
    by_cases q : b.1 = w
    · rw [if_pos q] at e
      exact Or.inr e.symm
    · rw [if_neg q] at e
      exact Or.inl ⟨e ▸ hb, e ▸ q⟩
  · rintro (⟨h1, h2⟩ | h)
    · exact ⟨a, h1, if_neg h2⟩
    · obtain ⟨y, hy⟩ := hw
      exact ⟨(w, y), hy, by rw [if_pos rfl, h]⟩
theorem kk_set_len {K : List (Nat × Int32)} {w : Nat} {x : Int32} : (kk_set K w x).length = K.length := List.length_map _
theorem kk_ins_perm {K : List (Nat × Int32)} {w : Nat} {x : Int32} (h : kk_S K) (hw : ww_w w) (hn : ∀ y, (w, y) ∉ K) : (kk_ins K w x).Perm ((w, x) :: K) := by
  unfold kk_ins
  refine List.perm_middle.trans (List.Perm.cons _ ?_)
  have e : K.filter (fun a => decide (ww_k w < ww_k a.1)) = K.filter (fun a => !decide (ww_k a.1 < ww_k w)) := by
    refine List.filter_congr (fun a ha => ?_)
    have ne : ww_k a.1 ≠ ww_k w := fun q => hn a.2 (by rw [← ww_kinj (h.1 a ha) hw q]; exact ha)
    by_cases q : ww_k a.1 < ww_k w
    · rw [decide_eq_true q, decide_eq_false (by omega)]; rfl
    · rw [decide_eq_false q, decide_eq_true (by omega)]; rfl
  rw [e]
  exact List.filter_append_perm _ K
theorem kk_ins_S {K : List (Nat × Int32)} {w : Nat} {x : Int32} (h : kk_S K) (hw : ww_w w) (hn : ∀ y, (w, y) ∉ K) (hl : K.length < 40) : kk_S (kk_ins K w x) := by
  have p := kk_ins_perm (x := x) h hw hn
  refine ⟨fun a ha => ?_, ?_, ?_⟩
  · rcases List.mem_cons.mp (p.mem_iff.mp ha) with q | q
    · rw [q]; exact hw
    · exact h.1 a q
  · unfold kk_ins
    refine List.pairwise_append.mpr ⟨h.2.1.filter _, List.pairwise_cons.mpr ⟨fun a ha => ?_, h.2.1.filter _⟩, fun a ha b hb => ?_⟩
    · have := (List.mem_filter.mp ha).2
      exact of_decide_eq_true this
    · have ha := of_decide_eq_true (List.mem_filter.mp ha).2
      rcases List.mem_cons.mp hb with q | q
      · rw [q]; exact ha
      · have hb := of_decide_eq_true (List.mem_filter.mp q).2
        omega
  · rw [p.length_eq, List.length_cons]; omega
theorem kk_del_mem {K : List (Nat × Int32)} {w : Nat} {a : Nat × Int32} : a ∈ kk_del K w ↔ a ∈ K ∧ a.1 ≠ w := by
  unfold kk_del
  rw [List.mem_filter, decide_eq_true_iff]
theorem kk_del_perm {K : List (Nat × Int32)} {w : Nat} {x : Int32} (h : kk_S K) (hm : (w, x) ∈ K) : K.Perm ((w, x) :: kk_del K w) := by
  have n1 := kk_nd h.2.1
  have n2 : ((w, x) :: kk_del K w).Nodup := List.nodup_cons.mpr ⟨fun q => (kk_del_mem.mp q).2 rfl, kk_nd (h.2.1.filter _)⟩
  refine (List.perm_ext_iff_of_nodup n1 n2).mpr (fun a => ?_)
  rw [List.mem_cons, kk_del_mem]
  constructor
  · intro ha
    by_cases q : a.1 = w
    · exact Or.inl (kk_uq h.2.1 a ha (w, x) hm q)
    · exact Or.inr ⟨ha, q⟩
  · rintro (q | q)
    · rw [q]; exact hm
    · exact q.1
theorem kk_del_S {K : List (Nat × Int32)} {w : Nat} (h : kk_S K) : kk_S (kk_del K w) := ⟨fun a ha => h.1 a (kk_del_mem.mp ha).1, h.2.1.filter _, Nat.le_trans (List.length_filter_le _ _) h.2.2⟩
theorem kk_del_len {K : List (Nat × Int32)} {w : Nat} {x : Int32} (h : kk_S K) (hm : (w, x) ∈ K) : K.length = (kk_del K w).length + 1 := by
  rw [(kk_del_perm h hm).length_eq, List.length_cons]
/-! arrays that hold a list -/
theorem kk_hd {ws vs : Nat → Int32} {P Q : List (Nat × Int32)} {a : Nat × Int32} (h : kk_H ws vs (P ++ a :: Q)) : ws P.length = nI a.1 ∧ vs P.length = a.2 := h _ _ (by simp)
theorem kk_ix {α : Type} {P Q : List α} {a b : α} {i : Nat} (h : i ≠ P.length) : (P ++ a :: Q)[i]? = (P ++ b :: Q)[i]? := by
  rcases Nat.lt_or_ge i P.length with q | q
  · rw [List.getElem?_append_left q, List.getElem?_append_left q]
  · rw [List.getElem?_append_right q, List.getElem?_append_right q]
    obtain ⟨k, hk⟩ : ∃ k, i - P.length = k + 1 := ⟨i - P.length - 1, by omega⟩
    rw [hk, List.getElem?_cons_succ, List.getElem?_cons_succ]
theorem kk_hset {ws vs : Nat → Int32} {P Q : List (Nat × Int32)} {w : Nat} {y x : Int32} (h : kk_H ws vs (P ++ (w, y) :: Q)) : kk_H ws (upd vs P.length x) (P ++ (w, x) :: Q) := by
  intro i a ha
  by_cases q : i = P.length
  · subst q
    have e : a = (w, x) := by
      rw [List.getElem?_append_right (Nat.le_refl _), Nat.sub_self] at ha
      exact (Option.some.inj ha).symm
    rw [e]
    exact ⟨(kk_hd h).1, pk_us⟩
  · rw [kk_ix (b := (w, y)) q] at ha
    rw [pk_un q]
    exact h i a ha
theorem kk_happ {ws vs : Nat → Int32} {L : List (Nat × Int32)} {w : Nat} {x : Int32} (h : kk_H ws vs L) : kk_H (upd ws L.length (nI w)) (upd vs L.length x) (L ++ [(w, x)]) := by
  intro i a ha
  by_cases q : i = L.length
  · subst q
    have e : a = (w, x) := by
      rw [List.getElem?_append_right (Nat.le_refl _), Nat.sub_self] at ha
      exact (Option.some.inj ha).symm
    rw [e]
    exact ⟨pk_us, pk_us⟩
  · have hi : i < L.length := by
      have := (List.getElem?_eq_some_iff.mp ha).1
      rw [List.length_append, List.length_singleton] at this
      omega
    rw [List.getElem?_append_left hi] at ha
    rw [pk_un q, pk_un q]
    exact h i a ha
theorem kk_hdel {ws vs ws' vs' : Nat → Int32} {P Q : List (Nat × Int32)} {a : Nat × Int32} (h : kk_H ws vs (P ++ a :: Q)) (h1 : ∀ j, j < P.length → ws' j = ws j ∧ vs' j = vs j) (h2 : ∀ j, P.length ≤ j → j < P.length + Q.length → ws' j = ws (j + 1) ∧ vs' j = vs (j + 1)) : kk_H ws' vs' (P ++ Q) := by
  intro i b hb
  rcases Nat.lt_or_ge i P.length with q | q
  · rw [List.getElem?_append_left q] at hb
    rw [(h1 i q).1, (h1 i q).2]
    exact h i b (by rw [List.getElem?_append_left q]; exact hb)
  · have hi := (List.getElem?_eq_some_iff.mp hb).1
    rw [List.length_append] at hi
    rw [List.getElem?_append_right q] at hb
    rw [(h2 i q hi).1, (h2 i q hi).2]
    refine h (i + 1) b ?_
    rw [List.getElem?_append_right (by omega)]
    have e : i + 1 - P.length = (i - P.length) + 1 := by omega
    rw [e, List.getElem?_cons_succ]
    exact hb
/-! ranks -/
def kk_rk (K : List (Nat × Int32)) (w : Nat) : Nat := K.countP (fun b => decide (ww_k b.1 < ww_k w))
theorem kk_cpos {c : Nat × Int32} {K : List (Nat × Int32)} {w : Nat} (q : ww_k c.1 < ww_k w) : (c :: K).countP (fun b => decide (ww_k b.1 < ww_k w)) = K.countP (fun b => decide (ww_k b.1 < ww_k w)) + 1 := List.countP_cons_of_pos (p := fun b : Nat × Int32 => decide (ww_k b.1 < ww_k w)) (decide_eq_true q)
theorem kk_cneg {c : Nat × Int32} {K : List (Nat × Int32)} {w : Nat} (q : ¬ ww_k c.1 < ww_k w) : (c :: K).countP (fun b => decide (ww_k b.1 < ww_k w)) = K.countP (fun b => decide (ww_k b.1 < ww_k w)) := List.countP_cons_of_neg (p := fun b : Nat × Int32 => decide (ww_k b.1 < ww_k w)) (fun hc => q (of_decide_eq_true hc))
theorem kk_rkle (K : List (Nat × Int32)) (w : Nat) : kk_rk K w ≤ K.length := List.countP_le_length
theorem kk_rki : ∀ {K : List (Nat × Int32)}, K.Pairwise (fun a b => ww_k a.1 < ww_k b.1) → ∀ {w i : Nat} {a : Nat × Int32}, K[i]? = some a → (ww_k a.1 < ww_k w ↔ i < kk_rk K w) := by
  intro K
  induction K with
  | nil => intro _ w i a h; cases h
  | cons c K ih =>
    intro h w i a ha
    have h1 := (List.pairwise_cons.mp h).1
    have h2 := (List.pairwise_cons.mp h).2
    unfold kk_rk
    by_cases q : ww_k c.1 < ww_k w
    · rw [kk_cpos q]
      cases i with
      | zero =>
        have e : c = a := Option.some.inj ha
        rw [← e]
        exact ⟨fun _ => by omega, fun _ => q⟩
      | succ i =>
        rw [List.getElem?_cons_succ] at ha
        rw [ih h2 ha (w := w)]
        unfold kk_rk
        omega
    · have z : K.countP (fun b => decide (ww_k b.1 < ww_k w)) = 0 := by
        refine List.countP_eq_zero.mpr (fun b hb hc => ?_)
        have := h1 b hb
        have := of_decide_eq_true hc
        omega
      rw [kk_cneg q, z]
      have : ww_k c.1 ≤ ww_k a.1 := by
        rcases List.mem_cons.mp (List.mem_of_getElem? ha) with p | p
        · rw [p]; exact Nat.le_refl _
        · exact Nat.le_of_lt (h1 a p)
      omega
theorem kk_rkat {K : List (Nat × Int32)} (h : K.Pairwise (fun a b => ww_k a.1 < ww_k b.1)) {i : Nat} {a : Nat × Int32} (ha : K[i]? = some a) : kk_rk K a.1 = i := by
  have h1 := kk_rki h (w := a.1) ha
  rcases Nat.lt_or_ge i (kk_rk K a.1) with q | q
  · have := h1.mpr q
    omega
  · rcases Nat.lt_or_ge (kk_rk K a.1) i with p | p
    · exfalso
      have hl := (List.getElem?_eq_some_iff.mp ha).1
      obtain ⟨b, hb⟩ : ∃ b, K[kk_rk K a.1]? = some b := ⟨_, List.getElem?_eq_getElem (by omega)⟩
      have h2 := kk_rki h (w := a.1) hb
      have h3 : ww_k b.1 < ww_k a.1 := by
        have e1 := List.getElem?_eq_some_iff.mp ha
        have e2 := List.getElem?_eq_some_iff.mp hb
        obtain ⟨_, e1⟩ := e1
        obtain ⟨_, e2⟩ := e2
        rw [← e1, ← e2]
        exact (List.pairwise_iff_getElem.mp h) _ _ _ _ p
      have := h2.mp h3
      omega
    · omega
theorem kk_rkm {K : List (Nat × Int32)} (h : K.Pairwise (fun a b => ww_k a.1 < ww_k b.1)) {a : Nat × Int32} (ha : a ∈ K) : K[kk_rk K a.1]? = some a := by
  obtain ⟨i, hi⟩ := List.getElem?_of_mem ha
  rw [kk_rkat h hi]
  exact hi
theorem kk_rkp {K L : List (Nat × Int32)} (h : L.Perm K) (w : Nat) : L.countP (fun b => decide (ww_k b.1 < ww_k w)) = kk_rk K w := h.countP_eq _
/-! sums -/
def kk_sum (r : Nat) : List (Nat × Int32) → Int32
  | [] => 0
  | a :: K => (if kk_g r a = true then a.2 else 0) + kk_sum r K
theorem kk_sump {r : Nat} {K L : List (Nat × Int32)} (h : L.Perm K) : kk_sum r L = kk_sum r K := by
  induction h with
  | nil => rfl
  | cons a _ ih => show _ + _ = _ + _; rw [ih]
  | swap a b l =>
    show _ + (_ + _) = _ + (_ + _)
    rw [← Int32.add_assoc, ← Int32.add_assoc]
    congr 1
    exact Int32.add_comm _ _
  | trans _ _ i1 i2 => rw [i1, i2]
/-! two sorted lists with the same members are the same -/
theorem kk_ext : ∀ {K L : List (Nat × Int32)}, K.Pairwise (fun a b => ww_k a.1 < ww_k b.1) → L.Pairwise (fun a b => ww_k a.1 < ww_k b.1) → (∀ a, a ∈ K ↔ a ∈ L) → K = L := by
  intro K
  induction K with
  | nil =>
    intro L _ _ h
    cases L with
    | nil => rfl
    | cons b L => exact absurd ((h b).mpr List.mem_cons_self) (fun z => by cases z)
  | cons a K ih =>
    intro L hK hL h
    cases L with
    | nil => exact absurd ((h a).mp List.mem_cons_self) (fun z => by cases z)
    | cons b L =>
      obtain ⟨k1, k2⟩ := List.pairwise_cons.mp hK
      obtain ⟨l1, l2⟩ := List.pairwise_cons.mp hL
      have e : a = b := by
        rcases List.mem_cons.mp ((h a).mp List.mem_cons_self) with z | z
        · exact z
        · rcases List.mem_cons.mp ((h b).mpr List.mem_cons_self) with y | y
          · exact y.symm
          · have p : ww_k b.1 < ww_k a.1 := l1 a z
            have q : ww_k a.1 < ww_k b.1 := k1 b y
            exfalso
            omega
      subst e
      rw [ih k2 l2 (fun c => ⟨fun hc => ?_, fun hc => ?_⟩)]
      · rcases List.mem_cons.mp ((h c).mp (List.mem_cons_of_mem _ hc)) with z | z
        · have p : ww_k a.1 < ww_k c.1 := k1 c hc
          rw [z] at p
          exfalso
          omega
        · exact z
      · rcases List.mem_cons.mp ((h c).mpr (List.mem_cons_of_mem _ hc)) with z | z
        · have p : ww_k a.1 < ww_k c.1 := l1 c hc
          rw [z] at p
          exfalso
          omega
        · exact z
/-! greatest common beginnings -/
def kk_glb (r : Nat) (L : List (Nat × Int32)) : Prop := ww_r r ∧ ∀ q, ww_g q r ↔ ∀ a ∈ L, ww_g q a.1
theorem kk_glbu {r s : Nat} {L M : List (Nat × Int32)} (hr : kk_glb r L) (hs : kk_glb s M) (h : ∀ a, a ∈ L ↔ a ∈ M) : r = s := by
  have e : ∀ q, ww_g q r ↔ ww_g q s := fun q => by
    rw [hr.2, hs.2]
    exact ⟨fun z a ha => z a ((h a).mpr ha), fun z a ha => z a ((h a).mp ha)⟩
  exact ww_ga ((e r).mp ww_gr) ((e s).mpr ww_gr)
theorem kk_glb1 {a : Nat × Int32} (h : ww_w a.1) : kk_glb a.1 [a] := ⟨h.1, fun q => by simp⟩
theorem kk_glbs {r n : Nat} {L : List (Nat × Int32)} {a : Nat × Int32} (h : kk_glb r L) (ha : ww_w a.1) (hn : ww_z r ≤ n) : kk_glb (ww_c a.1 n r) (L ++ [a]) := by
  obtain ⟨c1, c2, c3, c4⟩ := ww_cc ha.1 n r h.1 hn
  refine ⟨c1, fun q => ⟨fun z b hb => ?_, fun z => ?_⟩⟩
  · rcases List.mem_append.mp hb with p | p
    · exact (h.2 q).mp (ww_gt z c2) b p
    · rw [List.mem_singleton.mp p]
      exact ww_gt z c3
  · exact c4 q ((h.2 q).mpr (fun b hb => z b (List.mem_append.mpr (Or.inl hb)))) (z a (List.mem_append.mpr (Or.inr (List.mem_singleton.mpr rfl))))
end
section
/-! the reference's walks over a list that its arrays hold -/
theorem yy_in {A B C : Prop} {i n : Nat} (hi : i < n) (hn : n ≤ 40) (h : C) : (nI n ≤ nI i → A) ∧ (¬ nI n ≤ nI i → ((40 ≤ nI i → B) ∧ (¬ (40 : Int32) ≤ nI i → (vp_in (nI i) 40 ∧ C)))) :=
  br_f (nI_ge hi (by omega)) (br_f (nI_ge (b := 40) (by omega) (by decide)) ⟨vp_in_nI (by omega) (by decide), h⟩)
theorem yy_len {α : Type} {L P Q : List α} {a : α} (e : L = P ++ a :: Q) : L.length = P.length + (Q.length + 1) := by rw [e, List.length_append, List.length_cons]
theorem yy_app {α : Type} {L P Q : List α} {a : α} (e : L = P ++ a :: Q) : L = (P ++ [a]) ++ Q := by rw [e, List.append_assoc]; rfl
theorem yy_l1 {α : Type} {P : List α} {a : α} : (P ++ [a]).length = P.length + 1 := by rw [List.length_append, List.length_singleton]
theorem yy_w {ws vs : Nat → Int32} {L P Q : List (Nat × Int32)} {a : Nat × Int32} (h : kk_H ws vs L) (hl : L.length ≤ 40) (e : L = P ++ a :: Q) : ws (nI P.length).toNatClampNeg = nI a.1 ∧ vs (nI P.length).toNatClampNeg = a.2 := by
  have := yy_len e
  rw [nI_clamp (by omega)]
  rw [e] at h
  exact kk_hd h
theorem yy_fd {post : Int32 → Prop} {r : Int32} {ws vs : Nat → Int32} {L : List (Nat × Int32)} (hH : kk_H ws vs L) (hl : L.length ≤ 40) (hs : ∀ P a Q, L = P ++ a :: Q → nI a.1 = r → post (nI P.length)) (hn : (∀ a ∈ L, nI a.1 ≠ r) → post (-1)) : ∀ Q P : List (Nat × Int32), L = P ++ Q → (∀ a ∈ P, nI a.1 ≠ r) → wY_find_2 post r (nI L.length) ws vs (Q.length + 1) (nI P.length) := by
  intro Q
  induction Q with
  | nil =>
    intro P e hP
    have e' : L = P := by rw [e, List.append_nil]
    rw [← e'] at hP ⊢
    exact br_t (nI_le (Nat.le_refl _) (by omega)) (hn hP)
  | cons a Q ih =>
    intro P e hP
    have el := yy_len e
    have hw := yy_w hH hl e
    refine yy_in (by omega) hl ?_
    refine xw_if (d := nI a.1 = r) (by rw [hw.1]) (fun q => hs P a Q e q) (fun q => ?_)
    refine nm_r (nI_1 _) ?_
    have h := ih (P ++ [a]) (yy_app e) (fun b hb => by
      rcases List.mem_append.mp hb with z | z
      · exact hP b z
      · rw [List.mem_singleton.mp z]; exact q)
    rw [yy_l1] at h
    exact h
theorem yy_find {post : Int32 → Prop} {r : Int32} {ws vs : Nat → Int32} {L : List (Nat × Int32)} (hH : kk_H ws vs L) (hl : L.length ≤ 40) (hs : ∀ P a Q, L = P ++ a :: Q → nI a.1 = r → post (nI P.length)) (hn : (∀ a ∈ L, nI a.1 ≠ r) → post (-1)) : wpY_find post (nI L.length, ws, vs) r :=
  ⟨_, yy_fd hH hl hs hn L [] rfl (fun a h => by cases h)⟩
theorem yy_nI {K : List (Nat × Int32)} (hS : kk_S K) {a : Nat × Int32} (ha : a ∈ K) {n : Nat} (hn : n < 2 ^ 31) : nI a.1 = nI n ↔ a.1 = n := by
  have := ww_lt (hS.1 a ha).1
  exact nI_eq (by omega) hn
theorem yy_cl (r : Int32) : r.toNatClampNeg < 2 ^ 31 := Int32.toNatClampNeg_lt r
/-- a word's number and its int -/
theorem yy_wi {r : Int32} (h : ww_w r.toNatClampNeg) : r = nI r.toNatClampNeg := xw_of (by have := h.2; omega)
theorem yy_mk {K L : List (Nat × Int32)} {ws vs : Nat → Int32} {n : Nat} (p : L.Perm K) (hH : kk_H ws vs L) (hn : n = L.length) : kk_Y K (nI n, ws, vs) := ⟨L, p, by rw [hn, p.length_eq], hH⟩
theorem yy_put {post : Int32 → SY → Prop} {K : List (Nat × Int32)} {v : SY} {r x : Int32} (hS : kk_S K) (hY : kk_Y K v)
    (hb : ¬ ww_w r.toNatClampNeg → post (-1) v)
    (ho : ww_w r.toNatClampNeg → (∃ y, (r.toNatClampNeg, y) ∈ K) → ∀ v', kk_Y (kk_set K r.toNatClampNeg x) v' → post 0 v')
    (hf : ww_w r.toNatClampNeg → (∀ y, (r.toNatClampNeg, y) ∉ K) → K.length = 40 → post (-2) v)
    (hn : ww_w r.toNatClampNeg → (∀ y, (r.toNatClampNeg, y) ∉ K) → K.length < 40 → ∀ v', kk_Y (kk_ins K r.toNatClampNeg x) v' → post 1 v') : wpY_put post v r x := by
  have hl := hS.2.2
  obtain ⟨fc, ws, vs⟩ := v
  obtain ⟨L, p, e0, hH⟩ := hY
  have e0 : fc = nI K.length := e0
  have hH : kk_H ws vs L := hH
  rw [← p.length_eq] at e0
  subst e0
  have pl := p.length_eq
  unfold wpY_put
  dsimp only
  refine yw_badWord r (fun w => ?_) (fun w => br_f (by decide) (hb w))
  refine br_t rfl ?_
  have er := yy_wi w
  generalize r.toNatClampNeg = n at *
  subst er
  have hw := ww_lt w.1
  refine yy_find hH (by omega) (fun P a Q e q => ?_) (fun q => ?_)
  · have el := yy_len e
    refine br_f (nI_pos (by omega)) ⟨vp_in_nI (by omega) (by decide), nm_r (by rw [nI_clamp (by omega)]) ?_⟩
    have ha : a ∈ L := by rw [e]; exact List.mem_append.mpr (Or.inr List.mem_cons_self)
    have ea := (yy_nI hS (p.mem_iff.mp ha) (by omega)).mp q
    obtain ⟨b, y⟩ := a
    have ea : b = n := ea
    subst ea
    refine ho w ⟨y, p.mem_iff.mp ha⟩ _ ?_
    rw [e] at hH
    refine yy_mk (L := P ++ (b, x) :: Q) ?_ (kk_hset hH) (by rw [el, List.length_append, List.length_cons])
    refine List.Perm.trans (List.Perm.of_eq ?_) (p.map (fun a => if a.1 = b then (b, x) else a))
    have nd : ∀ c ∈ P ++ Q, c.1 ≠ b := by
      intro c hc h1
      have n1 : L.Nodup := p.symm.nodup (kk_nd hS.2.1)
      rw [e] at n1
      have hcK : c ∈ K := by
        refine p.mem_iff.mp ?_
        rw [e]
        rcases List.mem_append.mp hc with z | z
        · exact List.mem_append.mpr (Or.inl z)
        · exact List.mem_append.mpr (Or.inr (List.mem_cons_of_mem _ z))
      have ec := kk_uq hS.2.1 c hcK (b, y) (p.mem_iff.mp ha) h1
      have n2 := (List.Perm.nodup List.perm_middle n1)
      have n3 := (List.nodup_cons.mp n2).1
      rw [ec] at hc
      exact n3 hc
    rw [e, List.map_append, List.map_cons]
    rw [if_pos rfl]
    have m1 : P.map (fun a => if a.1 = b then (b, x) else a) = P := by
      have : P.map (fun a => if a.1 = b then (b, x) else a) = P.map id := List.map_congr_left (fun c hc => if_neg (nd c (List.mem_append.mpr (Or.inl hc))))
      rw [this, List.map_id]
    have m2 : Q.map (fun a => if a.1 = b then (b, x) else a) = Q := by
      have : Q.map (fun a => if a.1 = b then (b, x) else a) = Q.map id := List.map_congr_left (fun c hc => if_neg (nd c (List.mem_append.mpr (Or.inr hc))))
      rw [this, List.map_id]
    rw [m1, m2]
  · have nk : ∀ y, (n, y) ∉ K := fun y hy => q (n, y) (p.mem_iff.mpr hy) rfl
    refine br_t (by decide) ?_
    rw [← pl] at hf hn
    refine pk_le L.length 39 (fun z => ?_) (fun z => hf w nk (by omega))
    refine ⟨vp_in_nI (by omega) (by decide), nm_r (by rw [nI_clamp (by omega)]) ⟨vp_in_nI (by omega) (by decide), nm_r (by rw [nI_clamp (by omega)]) (nm_r (nI_1 _) (hn w nk (by omega) _ ?_))⟩⟩
    refine yy_mk (L := L ++ [(n, x)]) ?_ (kk_happ hH) yy_l1.symm
    exact ((List.perm_append_singleton _ _).trans (p.cons _)).trans (kk_ins_perm hS w nk).symm
theorem yy_to {post : SY → Prop} {ws0 vs0 : Nat → Int32} {p n : Nat} (hn : n ≤ 40) (hp : p < n) (h : ∀ ws vs : Nat → Int32, (∀ j, j < p → ws j = ws0 j ∧ vs j = vs0 j) → (∀ j, p ≤ j → j < n - 1 → ws j = ws0 (j + 1) ∧ vs j = vs0 (j + 1)) → post (nI (n - 1), ws, vs)) : ∀ (d i : Nat) (ws vs : Nat → Int32), i + d = n - 1 → p ≤ i → (∀ j, j < p → ws j = ws0 j ∧ vs j = vs0 j) → (∀ j, p ≤ j → j < i → ws j = ws0 (j + 1) ∧ vs j = vs0 (j + 1)) → (∀ j, i ≤ j → ws j = ws0 j ∧ vs j = vs0 j) → wY_takeOut_2 post (nI n) (d + 1) (nI i) ws vs := by
  have en : nI n - 1 = nI (n - 1) := xw_s1 (by omega)
  intro d
  induction d with
  | zero =>
    intro i ws vs hi hpi h1 h2 h3
    have ei : i = n - 1 := by omega
    subst ei
    exact br_t (by rw [en]; exact nI_le (Nat.le_refl _) (by omega)) (nm_r en (h ws vs h1 h2))
  | succ d ih =>
    intro i ws vs hi hpi h1 h2 h3
    refine br_f (by rw [en]; exact nI_ge (by omega) (by omega)) (br_f (nI_ge (b := 39) (by omega) (by decide)) ?_)
    have e1 : nI i + 1 = nI (i + 1) := nI_1 i
    have c1 : (nI i + 1).toNatClampNeg = i + 1 := by rw [e1, nI_clamp (by omega)]
    have c0 : (nI i).toNatClampNeg = i := nI_clamp (by omega)
    have v1 : vp_in (nI i + 1) 40 := by rw [e1]; exact vp_in_nI (by omega) (by decide)
    have v0 : vp_in (nI i) 40 := vp_in_nI (by omega) (by decide)
    rw [c1, c0]
    refine ⟨v1, v0, nm_e ⟨v1, v0, nm_e (nm_r e1 (ih (i + 1) _ _ (by omega) (by omega) (fun j hj => ?_) (fun j hj hk => ?_) (fun j hj => ?_)))⟩⟩
    · rw [pk_un (by omega), pk_un (by omega)]; exact h1 j hj
    · by_cases q : j = i
      · subst q
        rw [pk_us, pk_us]
        exact h3 (j + 1) (by omega)
      · rw [pk_un q, pk_un q]
        exact h2 j hj (by omega)
    · rw [pk_un (by omega), pk_un (by omega)]; exact h3 j (by omega)
theorem yy_takeOut {post : SY → Prop} {L P Q K : List (Nat × Int32)} {a : Nat × Int32} {ws vs : Nat → Int32} (hS : kk_S K) (p : L.Perm K) (hH : kk_H ws vs L) (e : L = P ++ a :: Q) (h : ∀ ws' vs', (P ++ Q).Perm (kk_del K a.1) → kk_H ws' vs' (P ++ Q) → post (nI (P ++ Q).length, ws', vs')) : wpY_takeOut post (nI L.length, ws, vs) (nI P.length) := by
  have el := yy_len e
  have hl := hS.2.2
  have pl := p.length_eq
  refine ⟨_, yy_to (p := P.length) (n := L.length) (by omega) (by omega) (fun ws' vs' h1 h2 => ?_) (Q.length) P.length ws vs (by omega) (Nat.le_refl _) (fun j _ => ⟨rfl, rfl⟩) (fun j h1 h2 => absurd h1 (by omega)) (fun j _ => ⟨rfl, rfl⟩)⟩
  have e2 : L.length - 1 = (P ++ Q).length := by rw [List.length_append]; omega
  rw [e2]
  refine h ws' vs' ?_ ?_
  · have ha : a ∈ K := p.mem_iff.mp (by rw [e]; exact List.mem_append.mpr (Or.inr List.mem_cons_self))
    have k1 := kk_del_perm (x := a.2) hS ha
    rw [e] at p
    exact ((List.perm_middle.symm.trans p).trans k1).cons_inv
  · rw [e] at hH
    exact kk_hdel hH h1 (fun j a b => h2 j a (by omega))
theorem yy_remove {post : Int32 → SY → Prop} {K : List (Nat × Int32)} {v : SY} {r : Int32} (hS : kk_S K) (hY : kk_Y K v)
    (hb : ¬ ww_w r.toNatClampNeg → post (-1) v)
    (hf : ww_w r.toNatClampNeg → (∀ y, (r.toNatClampNeg, y) ∉ K) → post (-2) v)
    (hn : ww_w r.toNatClampNeg → (∃ y, (r.toNatClampNeg, y) ∈ K) → ∀ v', kk_Y (kk_del K r.toNatClampNeg) v' → post 0 v') : wpY_remove post v r := by
  have hl := hS.2.2
  obtain ⟨fc, ws, vs⟩ := v
  obtain ⟨L, p, e0, hH⟩ := hY
  have e0 : fc = nI K.length := e0
  have hH : kk_H ws vs L := hH
  rw [← p.length_eq] at e0
  subst e0
  have pl := p.length_eq
  unfold wpY_remove
  dsimp only
  refine yw_badWord r (fun w => ?_) (fun w => br_f (by decide) (hb w))
  refine br_t rfl ?_
  have er := yy_wi w
  generalize r.toNatClampNeg = n at *
  subst er
  have hw := ww_lt w.1
  refine yy_find hH (by omega) (fun P a Q e q => ?_) (fun q => ?_)
  · have el := yy_len e
    refine br_t (nI_pos' (by omega)) ?_
    have ha : a ∈ L := by rw [e]; exact List.mem_append.mpr (Or.inr List.mem_cons_self)
    have ea := (yy_nI hS (p.mem_iff.mp ha) (by omega)).mp q
    refine yy_takeOut hS p hH e (fun ws' vs' p' h' => ?_)
    refine hn w ⟨a.2, by rw [← ea]; exact p.mem_iff.mp ha⟩ _ ?_
    rw [← ea]
    exact yy_mk p' h' rfl
  · exact br_f (by decide) (hf w (fun y hy => q (n, y) (p.mem_iff.mpr hy) rfl))
theorem yy_dlf {K : List (Nat × Int32)} {row : Nat} {a : Nat × Int32} (hg : kk_g row a = true) : (kk_del K a.1).filter (fun b => !kk_g row b) = K.filter (fun b => !kk_g row b) := by
  unfold kk_del
  rw [List.filter_filter]
  refine List.filter_congr (fun b _ => ?_)
  by_cases q : b.1 = a.1
  · have : kk_g row b = true := by unfold kk_g at hg ⊢; rw [q]; exact hg
    rw [this]; rfl
  · rw [decide_eq_true q, Bool.and_true]
theorem yy_clr {post : Int32 → SY → Prop} {K : List (Nat × Int32)} {row : Nat} (hr : ww_r row) (h : ∀ v', kk_Y (K.filter (fun a => !kk_g row a)) v' → post (nI (K.countP (kk_g row))) v') : ∀ (i : Nat) (Kc L : List (Nat × Int32)) (m : Nat) (ws vs : Nat → Int32), kk_S Kc → L.Perm Kc → kk_H ws vs L → Kc.filter (fun a => !kk_g row a) = K.filter (fun a => !kk_g row a) → m + Kc.length = K.length → i ≤ 40 → (∀ j a, i ≤ j → L[j]? = some a → kk_g row a = false) → wY_clear_15 post (nI row) (i + 1) (nI m) (nI i + (-1)) (nI L.length) ws vs := by
  intro i
  induction i with
  | zero =>
    intro Kc L m ws vs hS p hH ef em _ hj
    refine br_t (by decide) ?_
    have all : ∀ a ∈ Kc, (!kk_g row a) = true := fun a ha => by
      obtain ⟨j, hj2⟩ := List.getElem?_of_mem (p.mem_iff.mpr ha)
      rw [hj j a (Nat.zero_le _) hj2]; rfl
    have eK : Kc = K.filter (fun a => !kk_g row a) := by rw [← ef, List.filter_eq_self.mpr all]
    have c := List.length_eq_countP_add_countP (kk_g row) (l := K)
    have c2 : K.countP (fun a => decide ¬kk_g row a = true) = (K.filter (fun a => !kk_g row a)).length := by
      rw [List.countP_eq_length_filter]
      congr 1
      refine List.filter_congr (fun b _ => ?_)
      cases kk_g row b <;> rfl
    have e2 : m = K.countP (kk_g row) := by
      rw [c2, ← eK] at c
      omega
    rw [e2]
    refine h _ ?_
    rw [← eK]
    exact yy_mk p hH rfl
  | succ i ih =>
    intro Kc L m ws vs hS p hH ef em hi hj
    have hl := hS.2.2
    have pl := p.length_eq
    rw [pk_m1]
    refine br_f (nI_pos (by omega)) ?_
    refine pk_le L.length i (fun q => nm_e (ih Kc L m ws vs hS p hH ef em (by omega) (fun j a h1 h2 => ?_))) (fun q => ?_)
    · have := (List.getElem?_eq_some_iff.mp h2).1
      omega
    refine ⟨vp_in_nI (by omega) (by decide), ?_⟩
    obtain ⟨P, a, Q, e, lp⟩ : ∃ (P : List (Nat × Int32)) (a : Nat × Int32) (Q : List (Nat × Int32)), L = P ++ a :: Q ∧ P.length = i := ⟨L.take i, L[i], L.drop (i + 1), by rw [List.getElem_cons_drop, List.take_append_drop], by rw [List.length_take]; omega⟩
    subst lp
    have hw := yy_w hH (by omega) e
    have haL : a ∈ L := by rw [e]; exact List.mem_append.mpr (Or.inr List.mem_cons_self)
    have ha := hS.1 a (p.mem_iff.mp haL)
    rw [hw.1]
    refine yw_begins hr ha.1 (fun g => br_f (by decide) ?_) (fun g => br_t rfl (nm_e (ih Kc L m ws vs hS p hH ef em (by omega) (fun j b h1 h2 => ?_))))
    · refine yy_takeOut hS p hH e (fun ws' vs' p' h' => ?_)
      refine nm_r (nI_1 m) (nm_e (ih (kk_del Kc a.1) (P ++ Q) (m + 1) ws' vs' (kk_del_S hS) p' h' (by rw [yy_dlf (kk_gt g)]; exact ef) ?_ (by omega) (fun j b h1 h2 => ?_)))
      · have := kk_del_len (x := a.2) hS (p.mem_iff.mp haL)
        omega
      · refine hj (j + 1) b (by omega) ?_
        rw [e, List.getElem?_append_right (by omega)]
        rw [List.getElem?_append_right h1] at h2
        have e3 : j + 1 - P.length = (j - P.length) + 1 := by omega
        rw [e3, List.getElem?_cons_succ]
        exact h2
    · by_cases z : j = P.length
      · subst z
        rw [e, List.getElem?_append_right (Nat.le_refl _), Nat.sub_self] at h2
        have eb : a = b := Option.some.inj h2
        rw [← eb]
        exact kk_gf g
      · exact hj j b (by omega) h2
theorem yy_clear {post : Int32 → SY → Prop} {K : List (Nat × Int32)} {v : SY} {r : Int32} (hS : kk_S K) (hY : kk_Y K v)
    (hb : ¬ ww_r r.toNatClampNeg → post (-1) v)
    (hn : ww_r r.toNatClampNeg → ∀ v', kk_Y (K.filter (fun a => !kk_g r.toNatClampNeg a)) v' → post (nI (K.countP (kk_g r.toNatClampNeg))) v') : wpY_clear post v r := by
  have hl := hS.2.2
  obtain ⟨fc, ws, vs⟩ := v
  obtain ⟨L, p, e0, hH⟩ := hY
  have e0 : fc = nI K.length := e0
  have hH : kk_H ws vs L := hH
  rw [← p.length_eq] at e0
  subst e0
  have pl := p.length_eq
  unfold wpY_clear
  dsimp only
  refine yw_badRow r (fun w => ?_) (fun w => br_f (by decide) (hb w))
  refine br_t rfl ⟨41, ?_⟩
  have er : r = nI r.toNatClampNeg := xw_of (by have := ww_lt w; omega)
  generalize r.toNatClampNeg = n at *
  subst er
  exact yy_clr w (hn w) 40 K L 0 ws vs hS p hH rfl (by omega) (by omega) (fun j a h1 h2 => absurd (List.getElem?_eq_some_iff.mp h2).1 (by omega))
end
section
/-! the reference's questions -/
theorem yy_mem {α : Type} {L P Q : List α} {a : α} (e : L = P ++ a :: Q) : a ∈ L := by rw [e]; exact List.mem_append.mpr (Or.inr List.mem_cons_self)
theorem yy_end {A B : Prop} {L P : List (Nat × Int32)} (e : L = P ++ []) (hl : L.length ≤ 40) (h : A) : (nI L.length ≤ nI P.length → A) ∧ (¬ nI L.length ≤ nI P.length → B) := by
  have e' : L = P := by rw [e, List.append_nil]
  rw [e']
  exact br_t (nI_le (Nat.le_refl _) (by rw [← e']; omega)) h
theorem yy_ah {post : Int32 → Prop} {w : Nat} {ws vs : Nat → Int32} {L : List (Nat × Int32)} (hw : ww_w w) (hL : ∀ a ∈ L, ww_w a.1) (hH : kk_H ws vs L) (hl : L.length ≤ 40) : ∀ (Q P : List (Nat × Int32)) (m : Nat), L = P ++ Q → post (nI (m + Q.countP (fun b => decide (ww_k b.1 < ww_k w)))) → wY_ahead_4 post (nI w) (nI L.length) ws vs (Q.length + 1) (nI m) (nI P.length) := by
  intro Q
  induction Q with
  | nil =>
    intro P m e h
    exact yy_end e hl h
  | cons a Q ih =>
    intro P m e h
    have el := yy_len e
    have hv := yy_w hH hl e
    have i1 := fun m => ih (P ++ [a]) m (yy_app e)
    rw [yy_l1] at i1
    refine yy_in (by omega) hl ?_
    rw [hv.1]
    refine yw_before (hL a (yy_mem e)) hw (fun g => ?_) (fun g => ?_)
    · rw [kk_cpos g] at h
      refine br_f (by decide) (nm_r (nI_1 m) (nm_r (nI_1 _) (i1 (m + 1) ?_)))
      have e2 : m + 1 + Q.countP (fun b => decide (ww_k b.1 < ww_k w)) = m + (Q.countP (fun b => decide (ww_k b.1 < ww_k w)) + 1) := by omega
      rw [e2]
      exact h
    · rw [kk_cneg g] at h
      exact br_t rfl (nm_r (nI_1 _) (i1 m h))
theorem yy_ahead {post : Int32 → Prop} {w : Nat} {ws vs : Nat → Int32} {L K : List (Nat × Int32)} (hw : ww_w w) (hS : kk_S K) (p : L.Perm K) (hH : kk_H ws vs L) (h : post (nI (kk_rk K w))) : wpY_ahead post (nI L.length, ws, vs) (nI w) := by
  have pl := p.length_eq
  have hl := hS.2.2
  refine ⟨_, yy_ah hw (fun a ha => hS.1 a (p.mem_iff.mp ha)) hH (by omega) L [] 0 rfl ?_⟩
  rw [kk_rkp p, Nat.zero_add]
  exact h
def kk_nth (K : List (Nat × Int32)) (j : Nat) : Int32 := match K[j]? with
  | some a => nI a.1
  | none => -1
theorem kk_nths {K : List (Nat × Int32)} {j : Nat} {a : Nat × Int32} (h : K[j]? = some a) : kk_nth K j = nI a.1 := by unfold kk_nth; rw [h]
theorem kk_nthn {K : List (Nat × Int32)} {j : Nat} (h : K.length ≤ j) : kk_nth K j = -1 := by unfold kk_nth; rw [List.getElem?_eq_none h]
theorem yy_at2 {post : Int32 → Prop} {k : Int32} {ws vs : Nat → Int32} {L K : List (Nat × Int32)} (hS : kk_S K) (p : L.Perm K) (hH : kk_H ws vs L) (h1 : ∀ j, k = nI j → j < K.length → post (kk_nth K j)) (h0 : (∀ j, j < K.length → k ≠ nI j) → post (-1)) : ∀ (Q P : List (Nat × Int32)), L = P ++ Q → (∀ a ∈ P, nI (kk_rk K a.1) ≠ k) → wY_at_2 post k (nI L.length) ws vs (Q.length + 1) (nI P.length) := by
  have pl := p.length_eq
  have hl := hS.2.2
  intro Q
  induction Q with
  | nil =>
    intro P e hP
    refine yy_end e (by omega) (h0 (fun j hj q => ?_))
    have e' : L = P := by rw [e, List.append_nil]
    obtain ⟨a, ha⟩ : ∃ a, K[j]? = some a := ⟨_, List.getElem?_eq_getElem hj⟩
    refine hP a (by rw [← e']; exact p.mem_iff.mpr (List.mem_of_getElem? ha)) ?_
    rw [kk_rkat hS.2.1 ha, q]
  | cons a Q ih =>
    intro P e hP
    have el := yy_len e
    have hv := yy_w hH (by omega) e
    have haK := p.mem_iff.mp (yy_mem e)
    refine yy_in (by omega) (by omega) ?_
    rw [hv.1]
    refine yy_ahead (hS.1 a haK) hS p hH ?_
    have hk := kk_rkm hS.2.1 haK
    have hk2 := (List.getElem?_eq_some_iff.mp hk).1
    refine br_c (fun q => ⟨vp_in_nI (by omega) (by decide), ?_⟩) (fun q => nm_r (nI_1 _) ?_)
    · have := h1 _ q.symm hk2
      rw [kk_nths hk] at this
      exact this
    · have i1 := ih (P ++ [a]) (yy_app e) (fun b hb => by
        rcases List.mem_append.mp hb with z | z
        · exact hP b z
        · rw [List.mem_singleton.mp z]; exact q)
      rw [yy_l1] at i1
      exact i1
theorem yy_at {post : Int32 → Prop} {k : Int32} {ws vs : Nat → Int32} {L K : List (Nat × Int32)} (hS : kk_S K) (p : L.Perm K) (hH : kk_H ws vs L) (h1 : ∀ j, k = nI j → j < K.length → post (kk_nth K j)) (h0 : (∀ j, j < K.length → k ≠ nI j) → post (-1)) : wpY_at post (nI L.length, ws, vs) k :=
  ⟨_, yy_at2 hS p hH h1 h0 L [] rfl (fun a h => by cases h)⟩
/-- at an ordinary place -/
theorem yy_atN {post : Int32 → Prop} {j : Nat} {ws vs : Nat → Int32} {L K : List (Nat × Int32)} (hS : kk_S K) (p : L.Perm K) (hH : kk_H ws vs L) (hj : j < 2 ^ 31) (h : post (kk_nth K j)) : wpY_at post (nI L.length, ws, vs) (nI j) := by
  have hl := hS.2.2
  refine yy_at hS p hH (fun i hi hk => ?_) (fun q => ?_)
  · rw [(nI_eq hj (by omega)).mp hi] at h
    exact h
  · rw [kk_nthn] at h
    · exact h
    · rcases Nat.lt_or_ge j K.length with z | z
      · exact absurd rfl (q j z)
      · exact z
theorem yy_atm {post : Int32 → Prop} {k : Int32} {ws vs : Nat → Int32} {L K : List (Nat × Int32)} (hS : kk_S K) (p : L.Perm K) (hH : kk_H ws vs L) (hk : k < 0) (h : post (-1)) : wpY_at post (nI L.length, ws, vs) k := by
  have hl := hS.2.2
  exact yy_at hS p hH (fun i hi hj => absurd (hi ▸ hk) (nI_pos (by omega))) (fun _ => h)
/-! counts and sums -/
theorem yy_ct {post : Int32 → Prop} {row : Nat} {ws vs : Nat → Int32} {L : List (Nat × Int32)} (hr : ww_r row) (hL : ∀ a ∈ L, ww_w a.1) (hH : kk_H ws vs L) (hl : L.length ≤ 40) : ∀ (Q P : List (Nat × Int32)) (m : Nat), L = P ++ Q → post (nI (m + Q.countP (kk_g row))) → wY_count_14 post (nI row) (nI L.length) ws vs (Q.length + 1) (nI m) (nI P.length) := by
  intro Q
  induction Q with
  | nil =>
    intro P m e h
    exact yy_end e hl h
  | cons a Q ih =>
    intro P m e h
    have el := yy_len e
    have hv := yy_w hH hl e
    have i1 := fun m => ih (P ++ [a]) m (yy_app e)
    rw [yy_l1] at i1
    refine yy_in (by omega) hl ?_
    rw [hv.1]
    refine yw_begins hr (hL a (yy_mem e)).1 (fun g => ?_) (fun g => ?_)
    · rw [List.countP_cons_of_pos (kk_gt g)] at h
      refine br_f (by decide) (nm_r (nI_1 m) (nm_r (nI_1 _) (i1 (m + 1) ?_)))
      have e2 : m + 1 + Q.countP (kk_g row) = m + (Q.countP (kk_g row) + 1) := by omega
      rw [e2]
      exact h
    · rw [List.countP_cons_of_neg (fun hc => g (kk_gi.mp hc))] at h
      exact br_t rfl (nm_r (nI_1 _) (i1 m h))
theorem yy_sm {post : Int32 → Prop} {row : Nat} {ws vs : Nat → Int32} {L : List (Nat × Int32)} (hr : ww_r row) (hL : ∀ a ∈ L, ww_w a.1) (hH : kk_H ws vs L) (hl : L.length ≤ 40) : ∀ (Q P : List (Nat × Int32)) (m : Int32), L = P ++ Q → post (m + kk_sum row Q) → wY_sum_14 post (nI row) (nI L.length) ws vs (Q.length + 1) m (nI P.length) := by
  intro Q
  induction Q with
  | nil =>
    intro P m e h
    have h : post (m + 0) := h
    rw [Int32.add_zero] at h
    exact yy_end e hl h
  | cons a Q ih =>
    intro P m e h
    have el := yy_len e
    have hv := yy_w hH hl e
    have i1 := fun m => ih (P ++ [a]) m (yy_app e)
    rw [yy_l1] at i1
    have h : post (m + ((if kk_g row a = true then a.2 else 0) + kk_sum row Q)) := h
    refine yy_in (by omega) hl ?_
    rw [hv.1, hv.2]
    refine yw_begins hr (hL a (yy_mem e)).1 (fun g => ?_) (fun g => ?_)
    · rw [if_pos (kk_gt g), ← Int32.add_assoc] at h
      exact br_f (by decide) ⟨vp_in_nI (by omega) (by decide), nm_e (nm_r (nI_1 _) (i1 _ h))⟩
    · rw [if_neg (fun hc => g (kk_gi.mp hc)), Int32.zero_add] at h
      exact br_t rfl (nm_r (nI_1 _) (i1 m h))
/-! the longest held beginning -/
def kk_best (r : Int32) (L : List (Nat × Int32)) (w : Nat) : Prop := (r = -2 ∧ ∀ a ∈ L, ¬ ww_g a.1 w) ∨ (∃ m, r = nI m ∧ (∃ a ∈ L, a.1 = m) ∧ ww_g m w ∧ ∀ a ∈ L, ww_g a.1 w → a.1 ≤ m)
theorem kk_bestu {r s : Int32} {K L : List (Nat × Int32)} {w : Nat} (h : ∀ a, a ∈ L ↔ a ∈ K) (hr : kk_best r K w) (hs : kk_best s L w) : s = r := by
  rcases hr with ⟨e, f⟩ | ⟨m, e, ⟨a, ha, ea⟩, g, f⟩ <;> rcases hs with ⟨e', f'⟩ | ⟨m', e', ⟨a', ha', ea'⟩, g', f'⟩
  · rw [e, e']
  · exact absurd (ea' ▸ g') (f a' ((h a').mp ha'))
  · exact absurd (ea ▸ g) (f' a ((h a).mpr ha))
  · have x1 := f a' ((h a').mp ha') (ea' ▸ g')
    have x2 := f' a ((h a).mpr ha) (ea ▸ g)
    have : m = m' := by omega
    rw [e, e', this]
theorem yy_lg {post : Int32 → Prop} {w : Nat} {ws vs : Nat → Int32} {L : List (Nat × Int32)} (hw : ww_w w) (hL : ∀ a ∈ L, ww_w a.1) (hH : kk_H ws vs L) (hl : L.length ≤ 40) (h : ∀ r, kk_best r L w → post r) : ∀ (Q P : List (Nat × Int32)) (r : Int32), L = P ++ Q → kk_best r P w → wY_longest_15 post (nI w) (nI L.length) ws vs (Q.length + 1) r (nI P.length) := by
  intro Q
  induction Q with
  | nil =>
    intro P r e hP
    have e' : L = P := by rw [e, List.append_nil]
    exact yy_end e hl (h r (by rw [e']; exact hP))
  | cons a Q ih =>
    intro P r e hP
    have el := yy_len e
    have hv := yy_w hH hl e
    have i1 := fun r => ih (P ++ [a]) r (yy_app e)
    rw [yy_l1] at i1
    have ha := hL a (yy_mem e)
    have la := ww_lt ha.1
    have vi : vp_in (nI P.length) 40 := vp_in_nI (by omega) (by decide)
    refine yy_in (by omega) hl ?_
    rw [hv.1]
    refine yw_begins ha.1 hw.1 (fun g => br_f (by decide) ⟨vi, ?_⟩) (fun g => br_t rfl (nm_r (nI_1 _) (i1 r ?_)))
    · rcases hP with ⟨e1, f1⟩ | ⟨m, e1, ⟨b, hb, eb⟩, g1, f1⟩
      · refine br_f (by rw [e1, Int32.le_iff_toInt_le, nI_toInt (by omega)]; have : (-2 : Int32).toInt = -2 := by decide
                        rw [this]; omega) ⟨vi, nm_e (nm_r (nI_1 _) (i1 _ ?_))⟩
        refine Or.inr ⟨a.1, rfl, ⟨a, List.mem_append.mpr (Or.inr (List.mem_singleton.mpr rfl)), rfl⟩, g, fun c hc gc => ?_⟩
        rcases List.mem_append.mp hc with z | z
        · exact absurd gc (f1 c z)
        · rw [List.mem_singleton.mp z]; exact Nat.le_refl _
      · have hb2 := ww_lt (hL b (by rw [e]; exact List.mem_append.mpr (Or.inl hb))).1
        rw [eb] at hb2
        rw [e1]
        refine pk_le a.1 m (fun q => nm_r (nI_1 _) (i1 _ (Or.inr ⟨m, rfl, ⟨b, List.mem_append.mpr (Or.inl hb), eb⟩, g1, fun c hc gc => ?_⟩))) (fun q => ⟨vi, nm_e (nm_r (nI_1 _) (i1 _ (Or.inr ⟨a.1, rfl, ⟨a, List.mem_append.mpr (Or.inr (List.mem_singleton.mpr rfl)), rfl⟩, g, fun c hc gc => ?_⟩)))⟩)
        · rcases List.mem_append.mp hc with z | z
          · exact f1 c z gc
          · rw [List.mem_singleton.mp z]; exact q
        · rcases List.mem_append.mp hc with z | z
          · have := f1 c z gc
            omega
          · rw [List.mem_singleton.mp z]; exact Nat.le_refl _
    · rcases hP with ⟨e1, f1⟩ | ⟨m, e1, ⟨b, hb, eb⟩, g1, f1⟩
      · refine Or.inl ⟨e1, fun c hc => ?_⟩
        rcases List.mem_append.mp hc with z | z
        · exact f1 c z
        · rw [List.mem_singleton.mp z]; exact g
      · refine Or.inr ⟨m, e1, ⟨b, List.mem_append.mpr (Or.inl hb), eb⟩, g1, fun c hc gc => ?_⟩
        rcases List.mem_append.mp hc with z | z
        · exact f1 c z gc
        · rw [List.mem_singleton.mp z] at gc
          exact absurd gc g
/-! the common beginning -/
def kk_com (r : Int32) (L : List (Nat × Int32)) (row : Nat) : Prop := (r = -2 ∧ ∀ a ∈ L, ¬ ww_g row a.1) ∨ (∃ m, r = nI m ∧ kk_glb m (L.filter (kk_g row)) ∧ ∃ a ∈ L, ww_g row a.1)
theorem kk_comu {r s : Int32} {K L : List (Nat × Int32)} {row : Nat} (h : ∀ a, a ∈ L ↔ a ∈ K) (hr : kk_com r K row) (hs : kk_com s L row) : s = r := by
  rcases hr with ⟨e, f⟩ | ⟨m, e, g, a, ha, f⟩ <;> rcases hs with ⟨e', f'⟩ | ⟨m', e', g', a', ha', f'⟩
  · rw [e, e']
  · exact absurd f' (f a' ((h a').mp ha'))
  · exact absurd f (f' a ((h a).mpr ha))
  · rw [e, e', kk_glbu g' g (fun b => by rw [List.mem_filter, List.mem_filter, h b])]
theorem kk_com0 {r : Int32} {P : List (Nat × Int32)} {row : Nat} {a : Nat × Int32} (h : kk_com r P row) (g : ¬ ww_g row a.1) : kk_com r (P ++ [a]) row := by
  have ef : (P ++ [a]).filter (kk_g row) = P.filter (kk_g row) := by
    rw [List.filter_append, List.filter_cons_of_neg (by rw [kk_gf g]; decide), List.filter_nil, List.append_nil]
  rcases h with ⟨e1, f1⟩ | ⟨m, e1, g1, b, hb, f1⟩
  · refine Or.inl ⟨e1, fun c hc => ?_⟩
    rcases List.mem_append.mp hc with z | z
    · exact f1 c z
    · rw [List.mem_singleton.mp z]; exact g
  · exact Or.inr ⟨m, e1, by rw [ef]; exact g1, b, List.mem_append.mpr (Or.inl hb), f1⟩
theorem kk_com1 {P : List (Nat × Int32)} {row : Nat} {a : Nat × Int32} (h : ∀ c ∈ P, ¬ ww_g row c.1) (ha : ww_w a.1) (g : ww_g row a.1) : kk_com (nI a.1) (P ++ [a]) row := by
  refine Or.inr ⟨a.1, rfl, ?_, a, List.mem_append.mpr (Or.inr (List.mem_singleton.mpr rfl)), g⟩
  have e1 : P.filter (kk_g row) = [] := List.filter_eq_nil_iff.mpr (fun c hc z => h c hc (kk_gi.mp z))
  rw [List.filter_append, e1, List.filter_cons_of_pos (kk_gt g), List.filter_nil]
  exact kk_glb1 ha
theorem kk_com2 {P : List (Nat × Int32)} {row m n : Nat} {a : Nat × Int32} (h : kk_glb m (P.filter (kk_g row))) (ha : ww_w a.1) (g : ww_g row a.1) (hn : ww_z m ≤ n) : kk_com (nI (ww_c a.1 n m)) (P ++ [a]) row := by
  refine Or.inr ⟨_, rfl, ?_, a, List.mem_append.mpr (Or.inr (List.mem_singleton.mpr rfl)), g⟩
  rw [List.filter_append, List.filter_cons_of_pos (kk_gt g), List.filter_nil]
  exact kk_glbs h ha hn
theorem yy_c57t {post : Int32 → Prop} {J : Int32 → Int32 → Prop} {x1 : Int32} {ws vs : Nat → Int32} {n i m : Nat} {a : Nat × Int32} (hm : ww_r m) (ha : ww_r a.1) (hi : i < 40) (hw : ws (nI i).toNatClampNeg = nI a.1) (g : ww_g m a.1) (h : J (nI m) (nI (i + 1))) : ∀ d k : Nat, k + d = 6 → wY_common_57 post J x1 (nI i) (nI n) ws vs (d + 1) (nI m) (nI k) := by
  intro d
  induction d with
  | zero =>
    intro k hk
    have : k = 6 := by omega
    subst this
    exact br_t (by decide) (nm_r (nI_1 i) h)
  | succ d ih =>
    intro k hk
    refine br_f (nI_ge (b := 6) (by omega) (by decide)) ⟨vp_in_nI hi (by decide), ?_⟩
    rw [hw]
    refine yw_begins hm ha (fun _ => br_f (by decide) (nm_r (nI_1 k) (ih (k + 1) (by omega)))) (fun q => absurd g q)
theorem yy_c57 {post : Int32 → Prop} {J : Int32 → Int32 → Prop} {x1 : Int32} {ws vs : Nat → Int32} {n i : Nat} {a : Nat × Int32} (ha : ww_r a.1) (hi : i < 40) (hw : ws (nI i).toNatClampNeg = nI a.1) : ∀ d k m : Nat, k + d = 6 → ww_r m → ww_z m ≤ d → J (nI (ww_c a.1 d m)) (nI (i + 1)) → wY_common_57 post J x1 (nI i) (nI n) ws vs (d + 1) (nI m) (nI k) := by
  intro d
  induction d with
  | zero =>
    intro k m hk hm hz h
    exact yy_c57t hm ha hi hw (by rw [ww_z1 hm (by omega)]; exact ww_g1 ha) h 0 k hk
  | succ d ih =>
    intro k m hk hm hz h
    by_cases g : ww_g m a.1
    · rw [ww_ct g] at h
      exact yy_c57t hm ha hi hw g h (d + 1) k hk
    · rw [ww_cf g] at h
      have h0 : 0 < ww_z m := by
        rcases Nat.eq_zero_or_pos (ww_z m) with q | q
        · rw [ww_z1 hm q] at g
          exact absurd (ww_g1 ha) g
        · exact q
      have h8 := ww_8 hm h0
      have lm := ww_lt hm
      refine br_f (nI_ge (b := 6) (by omega) (by decide)) ⟨vp_in_nI hi (by decide), ?_⟩
      rw [hw]
      refine yw_begins hm ha (fun q => absurd q g) (fun _ => br_t rfl (nm_r (e' := nI (m / 8)) ?_ (nm_r (nI_1 k) (ih (k + 1) (m / 8) (by omega) h8.1 (by omega) h))))
      exact pk_shrN (by omega) _ 3 (by decide)
theorem yy_cm {post : Int32 → Prop} {row : Nat} {ws vs : Nat → Int32} {L : List (Nat × Int32)} (hr : ww_r row) (hL : ∀ a ∈ L, ww_w a.1) (hH : kk_H ws vs L) (hl : L.length ≤ 40) (h : ∀ r, kk_com r L row → post r) : ∀ (Q P : List (Nat × Int32)) (r : Int32), L = P ++ Q → kk_com r P row → wY_common_15 post (nI row) (nI L.length) ws vs (Q.length + 1) r (nI P.length) := by
  intro Q
  induction Q with
  | nil =>
    intro P r e hP
    have e' : L = P := by rw [e, List.append_nil]
    exact yy_end e hl (h r (by rw [e']; exact hP))
  | cons a Q ih =>
    intro P r e hP
    have el := yy_len e
    have hv := yy_w hH hl e
    have i1 := fun r => ih (P ++ [a]) r (yy_app e)
    rw [yy_l1] at i1
    have ha := hL a (yy_mem e)
    have la := ww_lt ha.1
    have vi : vp_in (nI P.length) 40 := vp_in_nI (by omega) (by decide)
    refine yy_in (by omega) hl ?_
    rw [hv.1]
    refine yw_begins hr ha.1 (fun g => br_f (by decide) ?_) (fun g => br_t rfl (nm_r (nI_1 _) (i1 r (kk_com0 hP g))))
    rcases hP with ⟨e1, f1⟩ | ⟨m, e1, g1, b, hb, f1⟩
    · refine br_f (by rw [e1]; decide) ⟨vi, nm_e ⟨_, yy_c57t ha.1 ha.1 (by omega) hv.1 ww_gr ?_ 6 0 (by omega)⟩⟩
      exact i1 _ (kk_com1 f1 ha g)
    · have lm := ww_lt g1.1
      have zm := (ww_rc g1.1).1
      rw [e1]
      refine br_t (nI_pos' (by omega)) ⟨_, yy_c57 ha.1 (by omega) hv.1 6 0 m (by omega) g1.1 zm ?_⟩
      exact i1 _ (kk_com2 g1 ha g zm)
end
section
/-! order words: size and cells, four bits each -/
def oo_perms : List (List Nat) := [[0, 1, 2, 3], [0, 1, 3, 2], [0, 2, 1, 3], [0, 2, 3, 1], [0, 3, 1, 2], [0, 3, 2, 1], [1, 0, 2, 3], [1, 0, 3, 2], [1, 2, 0, 3], [1, 2, 3, 0], [1, 3, 0, 2], [1, 3, 2, 0], [2, 0, 1, 3], [2, 0, 3, 1], [2, 1, 0, 3], [2, 1, 3, 0], [2, 3, 0, 1], [2, 3, 1, 0], [3, 0, 1, 2], [3, 0, 2, 1], [3, 1, 0, 2], [3, 1, 2, 0], [3, 2, 0, 1], [3, 2, 1, 0]]
def oo_enc (z : Nat) (l : List Nat) : Nat := z + 16 * l.getD 0 0 + 256 * l.getD 1 0 + 4096 * l.getD 2 0 + 65536 * l.getD 3 0
def oo_all : List Int32 := oo_perms.flatMap (fun l => (List.range 5).map (fun z => nI (oo_enc z l)))
def oo_z (o : Int32) : Nat := (o &&& 15).toNatClampNeg
def oo_c (o : Int32) (k : Nat) : Nat := ((o >>> (((4 * nI k) + 4) &&& 31)) &&& 15).toNatClampNeg
def oo_l (o : Int32) : List Nat := (List.range (oo_z o)).map (oo_c o)
def oo_ins (o : Int32) (k z : Nat) : Int32 := (((((o >>> ((4 : Int32) &&& 31)) &&& (((1 : Int32) <<< ((4 * nI k) &&& 31)) - 1)) ||| (((o >>> (((4 * nI z) + 4) &&& 31)) &&& 15) <<< ((4 * nI k) &&& 31))) ||| ((((o >>> ((4 : Int32) &&& 31)) >>> ((4 * nI k) &&& 31)) &&& (((1 : Int32) <<< ((4 * (nI z - nI k)) &&& 31)) - 1)) <<< (((4 * nI k) + 4) &&& 31))) ||| (((o >>> ((4 : Int32) &&& 31)) >>> (((4 * nI z) + 4) &&& 31)) <<< (((4 * nI z) + 4) &&& 31))) <<< ((4 : Int32) &&& 31) ||| (nI z + 1)
def oo_del (o c : Int32) (k z : Nat) : Int32 := (((((o >>> ((4 : Int32) &&& 31)) &&& (((1 : Int32) <<< ((4 * nI k) &&& 31)) - 1)) ||| ((((o >>> ((4 : Int32) &&& 31)) >>> (((4 * nI k) + 4) &&& 31)) &&& (((1 : Int32) <<< ((4 * ((nI z - 1) - nI k)) &&& 31)) - 1)) <<< ((4 * nI k) &&& 31))) ||| (c <<< ((4 * (nI z - 1)) &&& 31))) ||| (((o >>> ((4 : Int32) &&& 31)) >>> ((4 * nI z) &&& 31)) <<< ((4 * nI z) &&& 31))) <<< ((4 : Int32) &&& 31) ||| (nI z - 1)
theorem oo_a : ∀ o ∈ oo_all, oo_z o ≤ 4 ∧ o &&& 15 = nI (oo_z o) := by decide +kernel
theorem oo_b : ∀ o ∈ oo_all, ∀ k, k < 4 → oo_c o k < 4 ∧ (o >>> (((4 * nI k) + 4) &&& 31)) &&& 15 = nI (oo_c o k) := by decide +kernel
theorem oo_d : ∀ o ∈ oo_all, ∀ j, j < 4 → ∀ k, k < 4 → oo_c o j = oo_c o k → j = k := by decide +kernel
theorem oo_0 : (205056 : Int32) ∈ oo_all ∧ oo_z 205056 = 0 ∧ oo_l 205056 = [] := by decide +kernel
theorem oo_2 : (205058 : Int32) ∈ oo_all ∧ oo_z 205058 = 2 ∧ oo_l 205058 = [0, 1] := by decide +kernel
theorem oo_i : ∀ o ∈ oo_all, ∀ k, k < 4 → oo_z o < 4 → k ≤ oo_z o → oo_ins o k (oo_z o) ∈ oo_all ∧ oo_z (oo_ins o k (oo_z o)) = oo_z o + 1 ∧ oo_l (oo_ins o k (oo_z o)) = (oo_l o).take k ++ oo_c o (oo_z o) :: (oo_l o).drop k := by decide +kernel
theorem oo_s : ∀ o ∈ oo_all, oo_z o = 4 → (o &&& (-16)) ||| 2 ∈ oo_all ∧ oo_z ((o &&& (-16)) ||| 2) = 2 ∧ oo_l ((o &&& (-16)) ||| 2) = [oo_c o 0, oo_c o 1] ∧ oo_l o = [oo_c o 0, oo_c o 1, oo_c o 2, oo_c o 3] := by decide +kernel
theorem oo_x : ∀ o ∈ oo_all, ∀ k, k < 4 → k < oo_z o → oo_del o (nI (oo_c o k)) k (oo_z o) ∈ oo_all ∧ oo_z (oo_del o (nI (oo_c o k)) k (oo_z o)) = oo_z o - 1 ∧ oo_l (oo_del o (nI (oo_c o k)) k (oo_z o)) = (oo_l o).take k ++ (oo_l o).drop (k + 1) := by decide +kernel
end
section
/-! chains of nodes: entries, links, the walks over them -/
def cc_s (sl : Nat → Int32) (e : Nat) : Nat := (sl e).toNatClampNeg
def cc_e (o : Nat → Int32) (b : Nat) : List Nat := (oo_l (o b)).map (fun c => 4 * b + c)
def cc_E (o : Nat → Int32) (L : List Nat) : List Nat := L.flatMap (cc_e o)
def cc_h : List Nat → Int32
  | [] => -1
  | b :: _ => nI b
def cc_k (f : Nat → Int32) : List Nat → Prop
  | [] => True
  | b :: t => f b = cc_h t ∧ cc_k f t
def cc_G (sl : Nat → Int32) : Prop := ∀ e, cc_s sl e < 81 ∧ sl e = nI (cc_s sl e)
theorem cc_me {o : Nat → Int32} {b e : Nat} : e ∈ cc_e o b ↔ ∃ k, k < oo_z (o b) ∧ e = 4 * b + oo_c (o b) k := by
  unfold cc_e oo_l
  rw [List.mem_map]
  constructor
  · rintro ⟨c, hc, rfl⟩
    obtain ⟨k, hk, rfl⟩ := List.mem_map.mp hc
    exact ⟨k, List.mem_range.mp hk, rfl⟩
  · rintro ⟨k, hk, rfl⟩
    exact ⟨_, List.mem_map.mpr ⟨k, List.mem_range.mpr hk, rfl⟩, rfl⟩
theorem cc_e4 {o : Nat → Int32} {b e : Nat} (ho : o b ∈ oo_all) (he : e ∈ cc_e o b) : e / 4 = b ∧ 4 * b ≤ e ∧ e < 4 * b + 4 := by
  obtain ⟨k, hk, rfl⟩ := cc_me.mp he
  have h4 := (oo_a _ ho).1
  have := (oo_b _ ho k (by omega)).1
  omega
theorem cc_mE {o : Nat → Int32} {L : List Nat} {e : Nat} : e ∈ cc_E o L ↔ ∃ b, b ∈ L ∧ e ∈ cc_e o b := List.mem_flatMap
theorem cc_E4 {o : Nat → Int32} {L : List Nat} {e : Nat} (hL : ∀ b ∈ L, o b ∈ oo_all) (he : e ∈ cc_E o L) : e / 4 ∈ L ∧ e ∈ cc_e o (e / 4) := by
  obtain ⟨b, hb, h⟩ := cc_mE.mp he
  have := (cc_e4 (hL b hb) h).1
  rw [this]
  exact ⟨hb, h⟩
theorem cc_Ea {o : Nat → Int32} {A B : List Nat} : cc_E o (A ++ B) = cc_E o A ++ cc_E o B := List.flatMap_append
theorem cc_Ec {o : Nat → Int32} {b : Nat} {B : List Nat} : cc_E o (b :: B) = cc_e o b ++ cc_E o B := List.flatMap_cons
theorem cc_Eg {o o' : Nat → Int32} : ∀ {L : List Nat}, (∀ b ∈ L, o' b = o b) → cc_E o' L = cc_E o L := by
  intro L
  induction L with
  | nil => intro _; unfold cc_E; rw [List.flatMap_nil, List.flatMap_nil]
  | cons b L ih =>
    intro h
    rw [cc_Ec, cc_Ec, ih (fun c hc => h c (List.mem_cons_of_mem _ hc))]
    unfold cc_e
    rw [h b List.mem_cons_self]
theorem cc_hn {L : List Nat} (h : ∀ b ∈ L, b < 122) : cc_h L = -1 ↔ L = [] := by
  cases L with
  | nil => exact ⟨fun _ => rfl, fun _ => rfl⟩
  | cons b L =>
    refine ⟨fun q => ?_, fun q => by cases q⟩
    have q : nI b = -1 := q
    have hb := h b List.mem_cons_self
    have := nI_pos (n := b) (by omega)
    rw [q] at this
    exact absurd (by decide) this
theorem cc_kapp {f : Nat → Int32} : ∀ {A : List Nat} {b : Nat} {B : List Nat}, cc_k f (A ++ b :: B) → f b = cc_h B ∧ cc_k f B := by
  intro A
  induction A with
  | nil => intro b B h; exact h
  | cons a A ih => intro b B h; exact ih h.2
theorem cc_kg {f f' : Nat → Int32} : ∀ {L : List Nat}, (∀ b ∈ L, f' b = f b) → cc_k f L → cc_k f' L := by
  intro L
  induction L with
  | nil => intro _ _; trivial
  | cons b L ih => intro h k; exact ⟨by rw [h b List.mem_cons_self]; exact k.1, ih (fun c hc => h c (List.mem_cons_of_mem _ hc)) k.2⟩
theorem cc_s0 {o : Nat → Int32} {b : Nat} (hz : 1 ≤ oo_z (o b)) : 4 * b + oo_c (o b) 0 ∈ cc_e o b := cc_me.mpr ⟨0, by omega, rfl⟩
theorem cc_e0 {o : Nat → Int32} {b : Nat} (hz : 1 ≤ oo_z (o b)) : ∃ t, cc_e o b = (4 * b + oo_c (o b) 0) :: t := by
  unfold cc_e oo_l
  obtain ⟨n, hn⟩ : ∃ n, oo_z (o b) = n + 1 := ⟨oo_z (o b) - 1, by omega⟩
  rw [hn, List.range_succ_eq_map]
  exact ⟨_, rfl⟩
section
variable {f_top f_freeCount f_count f_listed f_current : Int32} {a_orders a_follower a_slices a_values a_held a_below a_freeNodes a_path a_wordAt a_valueAt a_node a_spot : Nat → Int32}
variable {post : Int32 → Prop}
theorem cc_entryAt {b k : Nat} (hb : b < 122) (ho : a_orders b ∈ oo_all) (hk : k < 4) (h : post (nI (4 * b + oo_c (a_orders b) k))) : wpX_entryAt post (f_top, f_freeCount, f_count, f_listed, f_current, a_orders, a_follower, a_slices, a_values, a_held, a_below, a_freeNodes, a_path, a_wordAt, a_valueAt, a_node, a_spot) (nI b) (nI k) := by
  unfold wpX_entryAt
  dsimp only
  refine ⟨vp_in_nI hb (by decide), ?_⟩
  rw [nI_clamp (by omega), (oo_b _ ho k hk).2, xw_4m, nI_add]
  exact h
theorem cc_sizeOfNode {b : Nat} (hb : b < 122) (ho : a_orders b ∈ oo_all) (h : post (nI (oo_z (a_orders b)))) : wpX_sizeOfNode post (f_top, f_freeCount, f_count, f_listed, f_current, a_orders, a_follower, a_slices, a_values, a_held, a_below, a_freeNodes, a_path, a_wordAt, a_valueAt, a_node, a_spot) (nI b) := by
  unfold wpX_sizeOfNode
  dsimp only
  refine ⟨vp_in_nI hb (by decide), ?_⟩
  rw [nI_clamp (by omega), (oo_a _ ho).2]
  exact h
theorem cc_in {b k : Nat} (hb : b < 122) (ho : a_orders b ∈ oo_all) (hk : k < 4) : 4 * b + oo_c (a_orders b) k < 488 := by
  have := (oo_b _ ho k hk).1
  omega
theorem cc_lesser2 {b s : Nat} (hb : b < 122) (ho : a_orders b ∈ oo_all) (hG : cc_G a_slices) (hs : s < 81) (h : ∀ k, k ≤ oo_z (a_orders b) → (∀ i, i < k → cc_s a_slices (4 * b + oo_c (a_orders b) i) < s) → (k < oo_z (a_orders b) → s ≤ cc_s a_slices (4 * b + oo_c (a_orders b) k)) → post (nI k)) : ∀ d k : Nat, k + d = oo_z (a_orders b) → (∀ i, i < k → cc_s a_slices (4 * b + oo_c (a_orders b) i) < s) → wX_lesserIn_2 post (nI b) (nI s) f_top f_freeCount f_count f_listed f_current a_orders a_follower a_slices a_values a_held a_below a_freeNodes a_path a_wordAt a_valueAt a_node a_spot (d + 1) (nI k) := by
  have z4 := (oo_a _ ho).1
  intro d
  induction d with
  | zero =>
    intro k hk hi
    rw [wX_lesserIn_2]
    refine cc_sizeOfNode hb ho ?_
    exact pk_le (oo_z (a_orders b)) k (fun _ => h k (by omega) hi (fun q => absurd q (by omega))) (fun q => absurd q (by omega))
  | succ d ih =>
    intro k hk hi
    rw [wX_lesserIn_2]
    refine cc_sizeOfNode hb ho ?_
    refine pk_le (oo_z (a_orders b)) k (fun q => absurd q (by omega)) (fun _ => ?_)
    refine cc_entryAt hb ho (by omega) ?_
    have hin := cc_in hb ho (k := k) (by omega)
    refine ⟨vp_in_nI hin (by decide), ?_⟩
    have g := hG (4 * b + oo_c (a_orders b) k)
    refine pk_le s (cc_s a_slices (4 * b + oo_c (a_orders b) k)) (fun q => h k (by omega) hi (fun _ => q)) (fun q => ?_) (hy := by rw [nI_clamp (by omega)]; exact g.2)
    refine nm_r (nI_1 k) (ih (k + 1) (by omega) (fun i hj => ?_))
    by_cases z : i = k
    · rw [z]; exact q
    · exact hi i (by omega)
theorem cc_lesserIn {b s : Nat} (hb : b < 122) (ho : a_orders b ∈ oo_all) (hG : cc_G a_slices) (hs : s < 81) (h : ∀ k, k ≤ oo_z (a_orders b) → (∀ i, i < k → cc_s a_slices (4 * b + oo_c (a_orders b) i) < s) → (k < oo_z (a_orders b) → s ≤ cc_s a_slices (4 * b + oo_c (a_orders b) k)) → post (nI k)) : wpX_lesserIn post (f_top, f_freeCount, f_count, f_listed, f_current, a_orders, a_follower, a_slices, a_values, a_held, a_below, a_freeNodes, a_path, a_wordAt, a_valueAt, a_node, a_spot) (nI b) (nI s) :=
  ⟨_, cc_lesser2 hb ho hG hs h (oo_z (a_orders b)) 0 (by omega) (fun i hi => absurd hi (by omega))⟩
theorem cc_nf10 {L : List Nat} {s : Nat} (hL : ∀ b ∈ L, b < 122 ∧ a_orders b ∈ oo_all) (hk : cc_k a_follower L) (hG : cc_G a_slices) (hs : s < 81) (h : ∀ A b B, L = A ++ b :: B → (A ≠ [] → cc_s a_slices (4 * b + oo_c (a_orders b) 0) ≤ s) → (∀ c B', B = c :: B' → s < cc_s a_slices (4 * c + oo_c (a_orders c) 0)) → post (nI b)) : ∀ (T A : List Nat) (b : Nat), L = A ++ b :: T → (A ≠ [] → cc_s a_slices (4 * b + oo_c (a_orders b) 0) ≤ s) → wX_nodeFor_10 post (nI s) f_top f_freeCount f_count f_listed f_current a_orders a_follower a_slices a_values a_held a_below a_freeNodes a_path a_wordAt a_valueAt a_node a_spot (T.length + 1) (nI b) (cc_h T) := by
  intro T
  induction T with
  | nil =>
    intro A b e hA
    exact br_t rfl (h A b [] e hA (fun c B' q => by cases q))
  | cons c T ih =>
    intro A b e hA
    have hc : c ∈ L := by rw [e]; exact List.mem_append.mpr (Or.inr (List.mem_cons_of_mem _ List.mem_cons_self))
    have hcl := hL c hc
    refine br_f (fun q => ?_) ?_
    · have := nI_pos (n := c) (by omega)
      have q : nI c = -1 := q
      rw [q] at this
      exact absurd (by decide) this
    have e2 : L = (A ++ [b]) ++ c :: T := by rw [e, List.append_assoc]; rfl
    have kc : a_follower c = cc_h T := (cc_kapp (e2 ▸ hk)).1
    show wpX_entryAt _ _ (nI c) (nI 0)
    refine cc_entryAt hcl.1 hcl.2 (by decide) ?_
    have hin := cc_in hcl.1 hcl.2 (k := 0) (by decide)
    have g := hG (4 * c + oo_c (a_orders c) 0)
    refine ⟨vp_in_nI hin (by decide), ?_⟩
    refine pk_lt s (cc_s a_slices (4 * c + oo_c (a_orders c) 0)) (fun q => h A b (c :: T) e hA (fun d B' z => ?_)) (fun q => ?_) (hy := by rw [nI_clamp (by omega)]; exact g.2)
    · have : c = d := (List.cons.inj z).1
      rw [← this]
      exact q
    · refine ⟨vp_in_nI hcl.1 (by decide), nm_r (e' := cc_h T) (by rw [show (cc_h (c :: T)).toNatClampNeg = c from nI_clamp (by omega)]; exact kc) ?_⟩
      exact ih (A ++ [b]) c e2 (fun _ => q)
theorem cc_nodeFor {b s : Nat} {T : List Nat} (hL : ∀ c ∈ b :: T, c < 122 ∧ a_orders c ∈ oo_all) (hk : cc_k a_follower (b :: T)) (hG : cc_G a_slices) (hs : s < 81) (h : ∀ A c B, b :: T = A ++ c :: B → (A ≠ [] → cc_s a_slices (4 * c + oo_c (a_orders c) 0) ≤ s) → (∀ d B', B = d :: B' → s < cc_s a_slices (4 * d + oo_c (a_orders d) 0)) → post (nI c)) : wpX_nodeFor post (f_top, f_freeCount, f_count, f_listed, f_current, a_orders, a_follower, a_slices, a_values, a_held, a_below, a_freeNodes, a_path, a_wordAt, a_valueAt, a_node, a_spot) (nI b) (nI s) := by
  have hb := (hL b List.mem_cons_self).1
  refine ⟨vp_in_nI hb (by decide), nm_r (e' := cc_h T) ?_ ⟨_, cc_nf10 hL hk hG hs h T [] b rfl (fun q => absurd rfl q)⟩⟩
  rw [nI_clamp (by omega)]
  exact hk.1
end
/-- where nodeFor's node stands among the entries -/
theorem cc_sep {o sl : Nat → Int32} {A B : List Nat} {b s : Nat} (hp : (cc_E o (A ++ b :: B)).Pairwise (fun a c => cc_s sl a < cc_s sl c)) (hz : ∀ c ∈ A ++ b :: B, c ≠ b → 1 ≤ oo_z (o c)) (hzb : A ≠ [] → 1 ≤ oo_z (o b)) (hnb : b ∉ B) (h1 : A ≠ [] → cc_s sl (4 * b + oo_c (o b) 0) ≤ s) (h2 : ∀ c B', B = c :: B' → s < cc_s sl (4 * c + oo_c (o c) 0)) : (∀ e ∈ cc_E o A, cc_s sl e < s) ∧ (∀ e ∈ cc_E o B, s < cc_s sl e) := by
  rw [cc_Ea, cc_Ec] at hp
  obtain ⟨_, p2, p3⟩ := List.pairwise_append.mp hp
  obtain ⟨_, p5, _⟩ := List.pairwise_append.mp p2
  constructor
  · intro e he
    have hA : A ≠ [] := fun q => by rw [q] at he; cases he
    have := p3 e he _ (List.mem_append.mpr (Or.inl (cc_s0 (hzb hA))))
    have := h1 hA
    omega
  · intro e he
    cases B with
    | nil => cases he
    | cons c B' =>
      have hc : c ≠ b := fun q => hnb (by rw [q]; exact List.mem_cons_self)
      have h3 := h2 c B' rfl
      have hzc := hz c (List.mem_append.mpr (Or.inr (List.mem_cons_of_mem _ List.mem_cons_self))) hc
      obtain ⟨t, ht⟩ := cc_e0 hzc
      rw [cc_Ec, ht] at he p5
      rcases List.mem_cons.mp (by exact he) with q | q
      · rw [q]; exact h3
      · have := (List.pairwise_cons.mp p5).1 e q
        omega
section
variable {f_top f_freeCount f_count f_listed f_current : Int32} {a_orders a_follower a_slices a_values a_held a_below a_freeNodes a_path a_wordAt a_valueAt a_node a_spot : Nat → Int32}
variable {post : Int32 → Prop}
theorem cc_entryFor {L : List Nat} {s : Nat} (hL : ∀ c ∈ L, c < 122 ∧ a_orders c ∈ oo_all ∧ 1 ≤ oo_z (a_orders c)) (hk : cc_k a_follower L) (hn : L.Nodup) (hG : cc_G a_slices) (hp : (cc_E a_orders L).Pairwise (fun a c => cc_s a_slices a < cc_s a_slices c)) (hs : s < 81) (h1 : ∀ e, e ∈ cc_E a_orders L → cc_s a_slices e = s → post (nI e)) (h0 : (∀ e, e ∈ cc_E a_orders L → cc_s a_slices e ≠ s) → post (-1)) : wpX_entryFor post (f_top, f_freeCount, f_count, f_listed, f_current, a_orders, a_follower, a_slices, a_values, a_held, a_below, a_freeNodes, a_path, a_wordAt, a_valueAt, a_node, a_spot) (cc_h L) (nI s) := by
  unfold wpX_entryFor
  dsimp only
  cases L with
  | nil => exact br_t rfl (h0 (fun e he => by cases he))
  | cons b T =>
    refine br_f (fun q => ?_) ?_
    · exact absurd ((cc_hn (fun c hc => (hL c hc).1)).mp q) (by simp)
    refine cc_nodeFor (fun c hc => ⟨(hL c hc).1, (hL c hc).2.1⟩) hk hG hs (fun A c B e g1 g2 => ?_)
    have hc := hL c (by rw [e]; exact List.mem_append.mpr (Or.inr List.mem_cons_self))
    have z4 := (oo_a _ hc.2.1).1
    rw [e] at hp hn hL
    have hnb : c ∉ B := (List.nodup_cons.mp (List.nodup_append.mp hn).2.1).1
    obtain ⟨sA, sB⟩ := cc_sep hp (fun d hd _ => (hL d hd).2.2) (fun _ => hc.2.2) hnb g1 g2
    refine cc_lesserIn hc.1 hc.2.1 hG hs (fun k hk1 hk2 hk3 => ?_)
    refine cc_sizeOfNode hc.1 hc.2.1 ?_
    have nope : (∀ i, i < oo_z (a_orders c) → cc_s a_slices (4 * c + oo_c (a_orders c) i) ≠ s) → post (-1) := fun q => by
      refine h0 (fun x hx => ?_)
      rw [e, cc_Ea, cc_Ec] at hx
      rcases List.mem_append.mp hx with y | y
      · have := sA x y; omega
      · rcases List.mem_append.mp y with y | y
        · obtain ⟨i, hi, rfl⟩ := cc_me.mp y
          exact q i hi
        · have := sB x y; omega
    have inc : ∀ i j, i < j → j < oo_z (a_orders c) → cc_s a_slices (4 * c + oo_c (a_orders c) i) < cc_s a_slices (4 * c + oo_c (a_orders c) j) := fun i j hij hj => by
      rw [cc_Ea, cc_Ec] at hp
      have p := (List.pairwise_append.mp (List.pairwise_append.mp hp).2.1).1
      unfold cc_e oo_l at p
      rw [List.map_map, List.pairwise_map] at p
      have := List.pairwise_iff_getElem.mp p i j (by rw [List.length_range]; omega) (by rw [List.length_range]; omega) hij
      rw [List.getElem_range, List.getElem_range] at this
      exact this
    refine pk_le (oo_z (a_orders c)) k (fun q => nope (fun i hi => by have := hk2 i (by omega); omega)) (fun q => ?_)
    refine cc_entryAt hc.1 hc.2.1 (by omega) ?_
    have hin := cc_in hc.1 hc.2.1 (k := k) (by omega)
    have g := hG (4 * c + oo_c (a_orders c) k)
    refine ⟨vp_in_nI hin (by decide), ?_⟩
    refine pk_eq (cc_s a_slices (4 * c + oo_c (a_orders c) k)) s (fun z => ?_) (fun z => ?_) (hx := by rw [nI_clamp (by omega)]; exact g.2)
    · refine cc_entryAt hc.1 hc.2.1 (by omega) (h1 _ ?_ z)
      rw [e, cc_Ea, cc_Ec]
      exact List.mem_append.mpr (Or.inr (List.mem_append.mpr (Or.inl (cc_me.mpr ⟨k, q, rfl⟩))))
    · refine nope (fun i hi => ?_)
      rcases Nat.lt_or_ge i k with y | y
      · have := hk2 i y; omega
      · have h3 := hk3 q
        rcases Nat.lt_or_ge k i with y2 | y2
        · have := inc k i y2 hi; omega
        · have : i = k := by omega
          rw [this]; exact z
end
end
section
/-! the tree's invariant; x: a path whose entry may be empty, y: a layer that may hold an empty node -/
def ti_F (C : Nat → List Nat) (fc : Int32) (fr : Nat → Int32) : Prop := ∃ F : List Nat, fc = nI F.length ∧ (∀ i c, F[i]? = some c → fr i = nI c) ∧ F.Nodup ∧ (∀ b, b ∈ F ↔ b < 122 ∧ ∀ p, b ∉ C p)
def ti_I (x y : Nat) (C : Nat → List Nat) (K : List (Nat × Int32)) (top fc : Int32) (o f sl v h w fr : Nat → Int32) : Prop :=
  (top = cc_h (C 0)) ∧
  (∀ p, cc_k f (C p)) ∧
  (∀ p b, b ∈ C p → b < 122 ∧ o b ∈ oo_all ∧ (p ≠ y → 1 ≤ oo_z (o b))) ∧
  (∀ p, (cc_E o (C p)).Pairwise (fun a c => cc_s sl a < cc_s sl c)) ∧
  (∀ p e, e ∈ cc_E o (C p) → 9 ≤ cc_s sl e ∧ w e = cc_h (C (81 * p + cc_s sl e)) ∧ (81 * p + cc_s sl e ≠ x → h e = 1 ∨ C (81 * p + cc_s sl e) ≠ [])) ∧
  cc_G sl ∧
  (∀ e, h e = 0 ∨ h e = 1) ∧
  (∀ q, C q ≠ [] → q < 6561 ∧ (q = 0 ∨ ∃ e, e ∈ cc_E o (C (q / 81)) ∧ cc_s sl e = q % 81)) ∧
  (∀ p q b, b ∈ C p → b ∈ C q → p = q) ∧
  (∀ p, (C p).Nodup) ∧
  ti_F C fc fr ∧
  (∀ a, a ∈ K → ∃ e, e ∈ cc_E o (C (ww_p a.1 / 81)) ∧ cc_s sl e = ww_p a.1 % 81 ∧ h e = 1 ∧ v e = a.2) ∧
  (∀ p e, e ∈ cc_E o (C p) → h e = 1 → ∃ a, a ∈ K ∧ ww_p a.1 = 81 * p + cc_s sl e ∧ v e = a.2)
theorem cc_puq {S : Nat → Nat} : ∀ {E : List Nat}, E.Pairwise (fun a c => S a < S c) → ∀ a, a ∈ E → ∀ b, b ∈ E → S a = S b → a = b := by
  intro E
  induction E with
  | nil => intro _ a ha; cases ha
  | cons c E ih =>
    intro h a ha b hb e
    have h1 := (List.pairwise_cons.mp h).1
    have h2 := (List.pairwise_cons.mp h).2
    rcases List.mem_cons.mp ha with p | p <;> rcases List.mem_cons.mp hb with q | q
    · rw [p, q]
    · have := h1 b q
      rw [← p, e] at this
      omega
    · have := h1 a p
      rw [← q, e] at this
      omega
    · exact ih h2 a p b q e
theorem cc_ei {o : Nat → Int32} {b i e : Nat} (h : (cc_e o b)[i]? = some e) : i < oo_z (o b) ∧ e = 4 * b + oo_c (o b) i := by
  unfold cc_e oo_l at h
  rw [List.map_map, List.getElem?_map] at h
  rcases Nat.lt_or_ge i (oo_z (o b)) with q | q
  · rw [List.getElem?_range q] at h
    exact ⟨q, (Option.some.inj h).symm⟩
  · rw [List.getElem?_eq_none (by rw [List.length_range]; exact q)] at h
    cases h
theorem cc_tk {o : Nat → Int32} {b k e : Nat} (h : e ∈ (cc_e o b).take k) : ∃ i, i < k ∧ i < oo_z (o b) ∧ e = 4 * b + oo_c (o b) i := by
  obtain ⟨i, hi⟩ := List.getElem?_of_mem h
  rw [List.getElem?_take] at hi
  by_cases q : i < k
  · rw [if_pos q] at hi
    exact ⟨i, q, cc_ei hi⟩
  · rw [if_neg q] at hi
    cases hi
theorem cc_dk {o : Nat → Int32} {b k e : Nat} (h : e ∈ (cc_e o b).drop k) : ∃ i, k ≤ i ∧ i < oo_z (o b) ∧ e = 4 * b + oo_c (o b) i := by
  obtain ⟨i, hi⟩ := List.getElem?_of_mem h
  rw [List.getElem?_drop] at hi
  exact ⟨k + i, by omega, cc_ei hi⟩
theorem cc_pins {S S' : Nat → Nat} {X Y : List Nat} {e s : Nat} (hp : (X ++ Y).Pairwise (fun a c => S a < S c)) (hX : ∀ a, a ∈ X → S a < s) (hY : ∀ a, a ∈ Y → s < S a) (hS : ∀ a, a ∈ X ++ Y → S' a = S a) (he : S' e = s) : (X ++ e :: Y).Pairwise (fun a c => S' a < S' c) := by
  have sX : ∀ a, a ∈ X → S' a = S a := fun a ha => hS a (List.mem_append.mpr (Or.inl ha))
  have sY : ∀ a, a ∈ Y → S' a = S a := fun a ha => hS a (List.mem_append.mpr (Or.inr ha))
  obtain ⟨p1, p2, p3⟩ := List.pairwise_append.mp hp
  refine List.pairwise_append.mpr ⟨p1.imp_of_mem (fun {a c} ha hc q => ?_), List.pairwise_cons.mpr ⟨fun a ha => ?_, p2.imp_of_mem (fun {a c} ha hc q => ?_)⟩, fun a ha c hc => ?_⟩
  · rw [sX a ha, sX c hc]; exact q
  · rw [he, sY a ha]; exact hY a ha
  · rw [sY a ha, sY c hc]; exact q
  · rcases List.mem_cons.mp hc with q | q
    · rw [q, he, sX a ha]; exact hX a ha
    · rw [sX a ha, sY c q]; exact p3 a ha c q
theorem cc_su {sl : Nat → Int32} {e s : Nat} (hs : s < 2 ^ 31) : cc_s (upd sl e (nI s)) e = s := by unfold cc_s; rw [pk_us, nI_clamp hs]
theorem cc_sn {sl : Nat → Int32} {e a : Nat} {s : Int32} (h : a ≠ e) : cc_s (upd sl e s) a = cc_s sl a := by unfold cc_s; rw [pk_un h]
theorem cc_Gu {sl : Nat → Int32} {e s : Nat} (h : cc_G sl) (hs : s < 81) : cc_G (upd sl e (nI s)) := by
  intro a
  by_cases q : a = e
  · rw [q, cc_su (by omega), pk_us]
    exact ⟨hs, rfl⟩
  · rw [cc_sn q, pk_un q]
    exact h a
section
variable {x y : Nat} {C : Nat → List Nat} {K : List (Nat × Int32)} {top fc : Int32} {o f sl v h w fr : Nat → Int32}
theorem ti_E4 (I : ti_I x y C K top fc o f sl v h w fr) {p e : Nat} (he : e ∈ cc_E o (C p)) : e / 4 ∈ C p ∧ e ∈ cc_e o (e / 4) ∧ e < 488 := by
  obtain ⟨_, _, i3, _⟩ := I
  have a := cc_E4 (fun b hb => (i3 p b hb).2.1) he
  have b := i3 p _ a.1
  have c := cc_e4 b.2.1 a.2
  exact ⟨a.1, a.2, by omega⟩
theorem ti_wk (I : ti_I x y C K top fc o f sl v h w fr) (x' : Nat) (hx : ∀ p e, e ∈ cc_E o (C p) → 81 * p + cc_s sl e = x → h e = 1 ∨ C x ≠ []) : ti_I x' y C K top fc o f sl v h w fr := by
  obtain ⟨i1, i2, i3, i4, i5, i6⟩ := I
  refine ⟨i1, i2, i3, i4, fun p e he => ?_, i6⟩
  obtain ⟨a, b, c⟩ := i5 p e he
  refine ⟨a, b, fun _ => ?_⟩
  by_cases q : 81 * p + cc_s sl e = x
  · rw [q]; exact hx p e he q
  · exact c q
theorem ti_wk0 (I : ti_I x y C K top fc o f sl v h w fr) (x' : Nat) (hx : C x ≠ []) : ti_I x' y C K top fc o f sl v h w fr := ti_wk I x' (fun _ _ _ _ => Or.inr hx)
theorem ti_w0 (I : ti_I 0 y C K top fc o f sl v h w fr) (x' : Nat) : ti_I x' y C K top fc o f sl v h w fr := by
  have i5 := I.2.2.2.2.1
  refine ti_wk I x' (fun p e he q => ?_)
  have := (i5 p e he).1
  omega
/-- an entry into a node with room -/
theorem ti_ins (I : ti_I x y C K top fc o f sl v h w fr) {p b s k : Nat} {A B : List Nat} (hC : C p = A ++ b :: B) (hz : oo_z (o b) < 4) (hk : k ≤ oo_z (o b)) (hA : ∀ e ∈ cc_E o A, cc_s sl e < s) (hB : ∀ e ∈ cc_E o B, s < cc_s sl e) (h1 : ∀ i, i < k → cc_s sl (4 * b + oo_c (o b) i) < s) (h2 : ∀ i, k ≤ i → i < oo_z (o b) → s < cc_s sl (4 * b + oo_c (o b) i)) (hs9 : 9 ≤ s) (hs : s < 81) (hy : ∀ q c, c ∈ C q → c ≠ b → 1 ≤ oo_z (o c)) (hx : ∀ q e, e ∈ cc_E o (C q) → 81 * q + cc_s sl e = x → h e = 1 ∨ C x ≠ []) : ti_I (81 * p + s) 6561 C K top fc (upd o b (oo_ins (o b) k (oo_z (o b)))) f (upd sl (4 * b + oo_c (o b) (oo_z (o b))) (nI s)) (upd v (4 * b + oo_c (o b) (oo_z (o b))) 0) (upd h (4 * b + oo_c (o b) (oo_z (o b))) 0) (upd w (4 * b + oo_c (o b) (oo_z (o b))) (-1)) fr ∧ 4 * b + oo_c (o b) (oo_z (o b)) ∈ cc_E (upd o b (oo_ins (o b) k (oo_z (o b)))) (C p) ∧ (∀ q e, e ∈ cc_E o (C q) → e ∈ cc_E (upd o b (oo_ins (o b) k (oo_z (o b)))) (C q) ∧ e ≠ 4 * b + oo_c (o b) (oo_z (o b))) := by
  have I' := I
  obtain ⟨i1, i2, i3, i4, i5, i6, i7, i8, i9, i10, i11, i12, i13⟩ := I
  have hbp : b ∈ C p := by rw [hC]; exact List.mem_append.mpr (Or.inr List.mem_cons_self)
  have hob := (i3 p b hbp).2.1
  obtain ⟨n1, n2, n3⟩ := oo_i (o b) hob k (by omega) hz hk
  have hnd := i10 p
  rw [hC] at hnd
  have hnA : ∀ c ∈ A, c ≠ b := fun c hc q => (List.nodup_append.mp hnd).2.2 c hc b List.mem_cons_self q
  have hnB : ∀ c ∈ B, c ≠ b := fun c hc q => (List.nodup_cons.mp (List.nodup_append.mp hnd).2.1).1 (q ▸ hc)
  have hfresh : ∀ q e, e ∈ cc_E o (C q) → e ≠ 4 * b + oo_c (o b) (oo_z (o b)) := by
    intro q e he z
    have a := ti_E4 I' he
    have c4 := (oo_b _ hob (oo_z (o b)) hz).1
    have eb : e / 4 = b := by omega
    rw [eb] at a
    obtain ⟨i, hi, e2⟩ := cc_me.mp a.2.1
    have := oo_d _ hob i (by omega) (oo_z (o b)) hz (by omega)
    omega
  generalize hen : 4 * b + oo_c (o b) (oo_z (o b)) = en at *
  generalize hon : oo_ins (o b) k (oo_z (o b)) = on at *
  have sS : ∀ q e, e ∈ cc_E o (C q) → cc_s (upd sl en (nI s)) e = cc_s sl e := fun q e he => cc_sn (hfresh q e he)
  have sN : cc_s (upd sl en (nI s)) en = s := cc_su (by omega)
  have eE : cc_E o (C p) = (cc_E o A ++ (cc_e o b).take k) ++ ((cc_e o b).drop k ++ cc_E o B) := by
    rw [hC, cc_Ea, cc_Ec, List.append_assoc, ← List.append_assoc ((cc_e o b).take k), List.take_append_drop]
  have eN : cc_E (upd o b on) (C p) = (cc_E o A ++ (cc_e o b).take k) ++ en :: ((cc_e o b).drop k ++ cc_E o B) := by
    have e1 : cc_e (upd o b on) b = (cc_e o b).take k ++ en :: (cc_e o b).drop k := by
      unfold cc_e
      rw [pk_us, n3, List.map_append, List.map_cons, List.map_take, List.map_drop, hen]
    rw [hC, cc_Ea, cc_Ec, e1, cc_Eg (fun c hc => pk_un (hnA c hc)), cc_Eg (fun c hc => pk_un (hnB c hc))]
    simp only [List.append_assoc, List.cons_append]
  have eQ : ∀ q, q ≠ p → cc_E (upd o b on) (C q) = cc_E o (C q) := fun q hq => cc_Eg (fun c hc => pk_un (fun z => hq (i9 q p b (z ▸ hc) hbp)))
  have mQ : ∀ q e, e ∈ cc_E (upd o b on) (C q) → e ∈ cc_E o (C q) ∨ (q = p ∧ e = en) := by
    intro q e he
    by_cases hq : q = p
    · subst hq
      rw [eN] at he
      rw [eE]
      rcases List.mem_append.mp he with z | z
      · exact Or.inl (List.mem_append.mpr (Or.inl z))
      · rcases List.mem_cons.mp z with z | z
        · exact Or.inr ⟨rfl, z⟩
        · exact Or.inl (List.mem_append.mpr (Or.inr z))
    · rw [eQ q hq] at he
      exact Or.inl he
  have mO : ∀ q e, e ∈ cc_E o (C q) → e ∈ cc_E (upd o b on) (C q) := by
    intro q e he
    by_cases hq : q = p
    · subst hq
      rw [eE] at he
      rw [eN]
      rcases List.mem_append.mp he with z | z
      · exact List.mem_append.mpr (Or.inl z)
      · exact List.mem_append.mpr (Or.inr (List.mem_cons_of_mem _ z))
    · rw [eQ q hq]
      exact he
  have mN : en ∈ cc_E (upd o b on) (C p) := by rw [eN]; exact List.mem_append.mpr (Or.inr List.mem_cons_self)
  have bX : ∀ a, a ∈ cc_E o A ++ (cc_e o b).take k → cc_s sl a < s := fun a ha => by
    rcases List.mem_append.mp ha with z | z
    · exact hA a z
    · obtain ⟨i, hi, _, rfl⟩ := cc_tk z
      exact h1 i hi
  have bY : ∀ a, a ∈ (cc_e o b).drop k ++ cc_E o B → s < cc_s sl a := fun a ha => by
    rcases List.mem_append.mp ha with z | z
    · obtain ⟨i, hi, hj, rfl⟩ := cc_dk z
      exact h2 i hi hj
    · exact hB a z
  have hnil : C (81 * p + s) = [] := by
    rcases Classical.em (C (81 * p + s) = []) with q | q
    · exact q
    · exfalso
      rcases (i8 _ q).2 with z | ⟨e, he, hse⟩
      · omega
      · have e1 : (81 * p + s) / 81 = p := by omega
        have e2 : (81 * p + s) % 81 = s := by omega
        rw [e1, eE] at he
        rcases List.mem_append.mp he with z | z
        · have := bX e z; omega
        · have := bY e z; omega
  refine ⟨⟨i1, i2, fun q c hc => ?_, fun q => ?_, fun q e he => ?_, cc_Gu i6 hs, fun e => ?_, fun q hq => ?_, i9, i10, i11, fun a ha => ?_, fun q e he hh => ?_⟩, mN, fun q e he => ⟨mO q e he, hfresh q e he⟩⟩
  · by_cases z : c = b
    · subst z
      rw [pk_us, n2]
      exact ⟨(i3 q c hc).1, n1, fun _ => by omega⟩
    · rw [pk_un z]
      exact ⟨(i3 q c hc).1, (i3 q c hc).2.1, fun _ => hy q c hc z⟩
  · by_cases hq : q = p
    · subst hq
      rw [eN]
      have hp := i4 q
      rw [eE] at hp
      exact cc_pins hp bX bY (fun a ha => sS q a (by rw [eE]; exact ha)) sN
    · rw [eQ q hq]
      exact (i4 q).imp_of_mem (fun {a c} ha hc z => by rw [sS q a ha, sS q c hc]; exact z)
  · rcases mQ q e he with z | ⟨z1, z2⟩
    · rw [sS q e z, pk_un (hfresh q e z), pk_un (hfresh q e z)]
      obtain ⟨a1, a2, a3⟩ := i5 q e z
      refine ⟨a1, a2, fun _ => ?_⟩
      by_cases hxx : 81 * q + cc_s sl e = x
      · rw [hxx]; exact hx q e z hxx
      · exact a3 hxx
    · subst z1 z2
      rw [sN, pk_us, hnil]
      exact ⟨hs9, rfl, fun z => absurd rfl z⟩
  · by_cases z : e = en
    · rw [z, pk_us]; exact Or.inl rfl
    · rw [pk_un z]; exact i7 e
  · obtain ⟨a1, a2⟩ := i8 q hq
    refine ⟨a1, ?_⟩
    rcases a2 with z | ⟨e, he, hse⟩
    · exact Or.inl z
    · exact Or.inr ⟨e, mO _ e he, by rw [sS _ e he]; exact hse⟩
  · obtain ⟨e, he, a1, a2, a3⟩ := i12 a ha
    have z := hfresh _ e he
    exact ⟨e, mO _ e he, by rw [sS _ e he]; exact a1, by rw [pk_un z]; exact a2, by rw [pk_un z]; exact a3⟩
  · rcases mQ q e he with z | ⟨z1, z2⟩
    · have z2 := hfresh q e z
      rw [pk_un z2] at hh
      rw [sS q e z, pk_un z2]
      exact i13 q e z hh
    · rw [z2, pk_us] at hh
      exact absurd hh (by decide)
end
end
section
/-! pure steps of the tree -/
def ti_u (C : Nat → List Nat) (p : Nat) (L : List Nat) : Nat → List Nat := fun q => if q = p then L else C q
theorem ti_us {C : Nat → List Nat} {p : Nat} {L : List Nat} : ti_u C p L p = L := if_pos rfl
theorem ti_un {C : Nat → List Nat} {p q : Nat} {L : List Nat} (h : q ≠ p) : ti_u C p L q = C q := if_neg h
section
variable {x y : Nat} {C : Nat → List Nat} {K : List (Nat × Int32)} {top fc : Int32} {o f sl v h w fr : Nat → Int32}
/-- the last free node -/
theorem ti_pop (hF : ti_F C fc fr) (h0 : fc ≠ 0) : ∃ (n c : Nat), fc = nI (n + 1) ∧ n < 122 ∧ c < 122 ∧ fr n = nI c ∧ (∀ p, c ∉ C p) ∧ ∀ C' : Nat → List Nat, (∀ b, (∃ p, b ∈ C' p) ↔ (b = c ∨ ∃ p, b ∈ C p)) → ti_F C' (nI n) fr := by
  obtain ⟨F, e1, e2, e3, e4⟩ := hF
  rcases List.eq_nil_or_concat F with q | ⟨G, c, q⟩
  · rw [q] at e1
    exact absurd e1 h0
  · rw [List.concat_eq_append] at q
    subst q
    have l1 : (G ++ [c]).length = G.length + 1 := yy_l1
    have hc := (e4 c).mp (List.mem_append.mpr (Or.inr (List.mem_singleton.mpr rfl)))
    have hl : (G ++ [c]).length ≤ (List.range 122).length := List.Nodup.length_le_of_subset e3 (fun b hb => List.mem_range.mpr ((e4 b).mp hb).1)
    rw [List.length_range, l1] at hl
    refine ⟨G.length, c, by rw [e1, l1], by omega, hc.1, e2 _ _ (by simp), hc.2, fun C' h' => ?_⟩
    obtain ⟨n1, n2, n3⟩ := List.nodup_append.mp e3
    refine ⟨G, rfl, fun i d hd => e2 i d ?_, n1, fun b => ⟨fun hb => ?_, fun hb => ?_⟩⟩
    · rw [List.getElem?_append_left (List.getElem?_eq_some_iff.mp hd).1]; exact hd
    · have a := (e4 b).mp (List.mem_append.mpr (Or.inl hb))
      refine ⟨a.1, fun p hp => ?_⟩
      rcases (h' b).mp ⟨p, hp⟩ with z | ⟨q, z⟩
      · exact n3 b hb c (List.mem_singleton.mpr rfl) z
      · exact a.2 q z
    · have nb : b ≠ c ∧ ∀ p, b ∉ C p := ⟨fun z => by
        obtain ⟨p, hp⟩ := (h' b).mpr (Or.inl z)
        exact hb.2 p hp, fun p z => by
        obtain ⟨p, hp⟩ := (h' b).mpr (Or.inr ⟨p, z⟩)
        exact hb.2 p hp⟩
      rcases List.mem_append.mp ((e4 b).mpr ⟨hb.1, nb.2⟩) with z | z
      · exact z
      · exact absurd (List.mem_singleton.mp z) nb.1
/-- a node given back -/
theorem ti_push (hF : ti_F C fc fr) {C' : Nat → List Nat} {b : Nat} (hb : b < 122) (hbC : ∃ p, b ∈ C p) (h' : ∀ c, (∃ p, c ∈ C p) ↔ (c = b ∨ ∃ p, c ∈ C' p)) (hb' : ∀ p, b ∉ C' p) : ∃ n, n < 122 ∧ fc = nI n ∧ ti_F C' (nI (n + 1)) (upd fr n (nI b)) := by
  obtain ⟨F, e1, e2, e3, e4⟩ := hF
  have nbF : b ∉ F := fun z => by
    obtain ⟨p, hp⟩ := hbC
    exact ((e4 b).mp z).2 p hp
  have n2 : (F ++ [b]).Nodup := List.nodup_append.mpr ⟨e3, List.nodup_cons.mpr ⟨(fun z => by cases z), List.nodup_nil⟩, fun a ha c hc z => by
    rw [List.mem_singleton.mp hc] at z
    exact nbF (z ▸ ha)⟩
  have hl : (F ++ [b]).length ≤ (List.range 122).length := List.Nodup.length_le_of_subset n2 (fun c hc => by
    rcases List.mem_append.mp hc with z | z
    · exact List.mem_range.mpr ((e4 c).mp z).1
    · rw [List.mem_singleton.mp z]; exact List.mem_range.mpr hb)
  rw [List.length_range, yy_l1] at hl
  refine ⟨F.length, by omega, e1, F ++ [b], by rw [yy_l1], fun i c hc => ?_, n2, fun c => ⟨fun hc => ?_, fun hc => ?_⟩⟩
  · by_cases q : i = F.length
    · subst q
      rw [List.getElem?_append_right (Nat.le_refl _), Nat.sub_self] at hc
      rw [pk_us]
      exact congrArg nI (Option.some.inj hc)
    · have hi := (List.getElem?_eq_some_iff.mp hc).1
      rw [yy_l1] at hi
      rw [List.getElem?_append_left (by omega)] at hc
      rw [pk_un q]
      exact e2 i c hc
  · rcases List.mem_append.mp hc with z | z
    · have a := (e4 c).mp z
      refine ⟨a.1, fun p hp => ?_⟩
      obtain ⟨q, hq⟩ := (h' c).mpr (Or.inr ⟨p, hp⟩)
      exact a.2 q hq
    · rw [List.mem_singleton.mp z]
      exact ⟨hb, hb'⟩
  · by_cases q : c = b
    · exact List.mem_append.mpr (Or.inr (List.mem_singleton.mpr q))
    · refine List.mem_append.mpr (Or.inl ((e4 c).mpr ⟨hc.1, fun p hp => ?_⟩))
      rcases (h' c).mp ⟨p, hp⟩ with z | ⟨r, z⟩
      · exact q z
      · exact hc.2 r z
/-- a new layer: one empty node; w' : the entry above points to it -/
theorem ti_new (I : ti_I x 6561 C K top fc o f sl v h w fr) {p c : Nat} {top' fc' : Int32} {w' : Nat → Int32} (hC : C p = []) (hp : p < 6561) (hpe : p = 0 ∨ ∃ e, e ∈ cc_E o (C (p / 81)) ∧ cc_s sl e = p % 81) (hc : c < 122) (hcf : ∀ q, c ∉ C q) (hF : ti_F (ti_u C p [c]) fc' fr) (ht : top' = if p = 0 then nI c else top) (hw : ∀ q e, e ∈ cc_E o (C q) → w' e = if 81 * q + cc_s sl e = p then nI c else w e) : ti_I x p (ti_u C p [c]) K top' fc' (upd o c 205056) (upd f c (-1)) sl v h w' fr ∧ ∀ q, cc_E (upd o c 205056) (ti_u C p [c] q) = cc_E o (C q) := by
  obtain ⟨i1, i2, i3, i4, i5, i6, i7, i8, i9, i10, i11, i12, i13⟩ := I
  have hne : ∀ q b, b ∈ C q → b ≠ c := fun q b hb z => hcf q (z ▸ hb)
  have eE : ∀ q, cc_E (upd o c 205056) (ti_u C p [c] q) = cc_E o (C q) := by
    intro q
    by_cases hq : q = p
    · subst hq
      rw [ti_us, hC]
      have e1 : cc_e (upd o c 205056) c = [] := by unfold cc_e; rw [pk_us, oo_0.2.2]; rfl
      rw [cc_Ec, e1]; rfl
    · rw [ti_un hq]
      exact cc_Eg (fun b hb => pk_un (hne q b hb))
  have mem : ∀ q b, b ∈ ti_u C p [c] q → (q = p ∧ b = c) ∨ (q ≠ p ∧ b ∈ C q) := by
    intro q b hb
    by_cases hq : q = p
    · subst hq
      rw [ti_us] at hb
      exact Or.inl ⟨rfl, List.mem_singleton.mp hb⟩
    · rw [ti_un hq] at hb
      exact Or.inr ⟨hq, hb⟩
  refine ⟨⟨?_, fun q => ?_, fun q b hb => ?_, fun q => ?_, fun q e he => ?_, i6, i7, fun q hq => ?_, fun q r b hb hr => ?_, fun q => ?_, hF, fun a ha => ?_, fun q e he hh => ?_⟩, eE⟩
  · rw [ht]
    by_cases z : p = 0
    · rw [if_pos z, z, ti_us]; rfl
    · rw [if_neg z, ti_un (fun q => z q.symm)]; exact i1
  · by_cases hq : q = p
    · subst hq
      rw [ti_us]
      exact ⟨pk_us, trivial⟩
    · rw [ti_un hq]
      exact cc_kg (fun b hb => pk_un (hne q b hb)) (i2 q)
  · rcases mem q b hb with ⟨z1, z2⟩ | ⟨z1, z2⟩
    · rw [z2, pk_us]
      exact ⟨hc, oo_0.1, fun z => absurd z1 z⟩
    · rw [pk_un (hne q b z2)]
      obtain ⟨a1, a2, a3⟩ := i3 q b z2
      refine ⟨a1, a2, fun _ => a3 (fun z => ?_)⟩
      have := (i8 q (fun y => by rw [y] at z2; cases z2)).1
      omega
  · rw [eE q]; exact i4 q
  · rw [eE q] at he
    obtain ⟨a1, a2, a3⟩ := i5 q e he
    rw [hw q e he]
    by_cases z : 81 * q + cc_s sl e = p
    · rw [if_pos z, z, ti_us]
      exact ⟨a1, rfl, fun _ => Or.inr (by simp)⟩
    · rw [if_neg z, ti_un z]
      exact ⟨a1, a2, a3⟩
  · by_cases z : q = p
    · subst z
      refine ⟨hp, ?_⟩
      rcases hpe with z | ⟨e, he, hs⟩
      · exact Or.inl z
      · exact Or.inr ⟨e, by rw [eE]; exact he, hs⟩
    · rw [ti_un z] at hq
      obtain ⟨a1, a2⟩ := i8 q hq
      refine ⟨a1, ?_⟩
      rcases a2 with z | ⟨e, he, hs⟩
      · exact Or.inl z
      · exact Or.inr ⟨e, by rw [eE]; exact he, hs⟩
  · rcases mem q b hb with ⟨z1, z2⟩ | ⟨z1, z2⟩ <;> rcases mem r b hr with ⟨y1, y2⟩ | ⟨y1, y2⟩
    · rw [z1, y1]
    · exact absurd (z2 ▸ y2) (hcf r)
    · exact absurd (y2 ▸ z2) (hcf q)
    · exact i9 q r b z2 y2
  · by_cases hq : q = p
    · subst hq
      rw [ti_us]
      exact List.nodup_cons.mpr ⟨(fun z => by cases z), List.nodup_nil⟩
    · rw [ti_un hq]; exact i10 q
  · obtain ⟨e, he, a⟩ := i12 a ha
    exact ⟨e, by rw [eE]; exact he, a⟩
  · rw [eE] at he
    exact i13 q e he hh
end
end
section
/-! pure steps of the tree, II -/
section
variable {x y : Nat} {C : Nat → List Nat} {K : List (Nat × Int32)} {top fc : Int32} {o f sl v h w fr : Nat → Int32}
theorem cc_hA {A : List Nat} {b : Nat} {B B' : List Nat} : cc_h (A ++ b :: B) = cc_h (A ++ b :: B') := by
  cases A with
  | nil => rfl
  | cons a A => rfl
/-- links: a node put in behind b -/
theorem cc_kput {f f' : Nat → Int32} {b c : Nat} : ∀ {A B : List Nat}, (A ++ b :: B).Nodup → (∀ d ∈ A ++ b :: B, d ≠ c) → cc_k f (A ++ b :: B) → f' b = nI c → f' c = f b → (∀ d, d ≠ b → d ≠ c → f' d = f d) → cc_k f' (A ++ b :: c :: B) := by
  intro A
  induction A with
  | nil =>
    intro B hn hc hk h1 h2 h3
    have nb := (List.nodup_cons.mp hn).1
    exact ⟨h1, by rw [h2]; exact hk.1, cc_kg (fun d hd => h3 d (fun z => nb (z ▸ hd)) (hc d (List.mem_cons_of_mem _ hd))) hk.2⟩
  | cons a A ih =>
    intro B hn hc hk h1 h2 h3
    obtain ⟨na, nn⟩ := List.nodup_cons.mp hn
    have ab : a ≠ b := fun z => na (by rw [z]; exact List.mem_append.mpr (Or.inr List.mem_cons_self))
    exact ⟨by rw [h3 a ab (hc a List.mem_cons_self), hk.1]; exact cc_hA, ih nn (fun d hd => hc d (List.mem_cons_of_mem _ hd)) hk.2 h1 h2 h3⟩
/-- a full node split -/
theorem ti_split (I : ti_I x 6561 C K top fc o f sl v h w fr) {p b c : Nat} {A B : List Nat} {fc' : Int32} {o' f' sl' v' h' w' : Nat → Int32} (hC : C p = A ++ b :: B) (hz : oo_z (o b) = 4) (hc : c < 122) (hcf : ∀ q, c ∉ C q) (hF : ti_F (ti_u C p (A ++ b :: c :: B)) fc' fr)
    (ho1 : o' c = 205058) (ho2 : o' b = (o b &&& (-16)) ||| 2) (ho3 : ∀ d, d ≠ b → d ≠ c → o' d = o d)
    (hf1 : f' b = nI c) (hf2 : f' c = f b) (hf3 : ∀ d, d ≠ b → d ≠ c → f' d = f d)
    (hm : ∀ a a', (a, a') = (sl, sl') ∨ (a, a') = (v, v') ∨ (a, a') = (h, h') ∨ (a, a') = (w, w') → a' (4 * c) = a (4 * b + oo_c (o b) 2) ∧ a' (4 * c + 1) = a (4 * b + oo_c (o b) 3) ∧ ∀ e, e ≠ 4 * c → e ≠ 4 * c + 1 → a' e = a e) : ti_I x 6561 (ti_u C p (A ++ b :: c :: B)) K top fc' o' f' sl' v' h' w' fr ∧ (∀ q, (∀ s, (∀ e, e ∈ cc_E o (C q) → cc_s sl e ≠ s) → ∀ e, e ∈ cc_E o' (ti_u C p (A ++ b :: c :: B) q) → cc_s sl' e ≠ s)) := by
  have I' := I
  obtain ⟨i1, i2, i3, i4, i5, i6, i7, i8, i9, i10, i11, i12, i13⟩ := I
  obtain ⟨s1, s2, s3⟩ := hm sl sl' (Or.inl rfl)
  obtain ⟨v1, v2, v3⟩ := hm v v' (Or.inr (Or.inl rfl))
  obtain ⟨h1, h2, h3⟩ := hm h h' (Or.inr (Or.inr (Or.inl rfl)))
  obtain ⟨w1, w2, w3⟩ := hm w w' (Or.inr (Or.inr (Or.inr rfl)))
  have hbp : b ∈ C p := by rw [hC]; exact List.mem_append.mpr (Or.inr List.mem_cons_self)
  have hob := (i3 p b hbp).2.1
  have hne : ∀ q d, d ∈ C q → d ≠ c := fun q d hd z => hcf q (z ▸ hd)
  have hbc : b ≠ c := hne p b hbp
  obtain ⟨n1, n2, n3, n4⟩ := oo_s (o b) hob hz
  have hnd := i10 p
  rw [hC] at hnd
  have hnA : ∀ d ∈ A, d ≠ b := fun d hd q => (List.nodup_append.mp hnd).2.2 d hd b List.mem_cons_self q
  have hnB : ∀ d ∈ B, d ≠ b := fun d hd q => (List.nodup_cons.mp (List.nodup_append.mp hnd).2.1).1 (q ▸ hd)
  have hcA : ∀ d ∈ A, d ≠ c := fun d hd => hne p d (by rw [hC]; exact List.mem_append.mpr (Or.inl hd))
  have hcB : ∀ d ∈ B, d ≠ c := fun d hd => hne p d (by rw [hC]; exact List.mem_append.mpr (Or.inr (List.mem_cons_of_mem _ hd)))
  have d23 : oo_c (o b) 2 ≠ oo_c (o b) 3 := fun z => absurd (oo_d _ hob 2 (by decide) 3 (by decide) z) (by decide)
  have d02 : oo_c (o b) 0 ≠ oo_c (o b) 2 := fun z => absurd (oo_d _ hob 0 (by decide) 2 (by decide) z) (by decide)
  have d03 : oo_c (o b) 0 ≠ oo_c (o b) 3 := fun z => absurd (oo_d _ hob 0 (by decide) 3 (by decide) z) (by decide)
  have d12 : oo_c (o b) 1 ≠ oo_c (o b) 2 := fun z => absurd (oo_d _ hob 1 (by decide) 2 (by decide) z) (by decide)
  have d13 : oo_c (o b) 1 ≠ oo_c (o b) 3 := fun z => absurd (oo_d _ hob 1 (by decide) 3 (by decide) z) (by decide)
  have b2 := (oo_b _ hob 2 (by decide)).1
  have b3 := (oo_b _ hob 3 (by decide)).1
  generalize hr : (fun e => if e = 4 * b + oo_c (o b) 2 then 4 * c else if e = 4 * b + oo_c (o b) 3 then 4 * c + 1 else e) = ρ at *
  have r2 : ρ (4 * b + oo_c (o b) 2) = 4 * c := by rw [← hr]; exact if_pos rfl
  have r3 : ρ (4 * b + oo_c (o b) 3) = 4 * c + 1 := by rw [← hr]; dsimp only; rw [if_neg (by omega), if_pos rfl]
  have rn : ∀ e, e ≠ 4 * b + oo_c (o b) 2 → e ≠ 4 * b + oo_c (o b) 3 → ρ e = e := fun e z1 z2 => by rw [← hr]; dsimp only; rw [if_neg z1, if_neg z2]
  have rq : ∀ q e, e ∈ cc_E o (C q) → e / 4 ≠ b → ρ e = e := fun q e he z => rn e (by omega) (by omega)
  have emap : ∀ L : List Nat, (∀ d ∈ L, d ≠ b ∧ o d ∈ oo_all) → (cc_E o L).map ρ = cc_E o L := by
    intro L hL
    have : (cc_E o L).map ρ = (cc_E o L).map id := by
      refine List.map_congr_left (fun e he => ?_)
      have a := cc_E4 (fun d hd => (hL d hd).2) he
      have := (hL _ a.1).1
      exact rn e (by omega) (by omega)
    rw [this, List.map_id]
  have okA : ∀ d ∈ A, o d ∈ oo_all := fun d hd => (i3 p d (by rw [hC]; exact List.mem_append.mpr (Or.inl hd))).2.1
  have okB : ∀ d ∈ B, o d ∈ oo_all := fun d hd => (i3 p d (by rw [hC]; exact List.mem_append.mpr (Or.inr (List.mem_cons_of_mem _ hd)))).2.1
  have eE : ∀ q, cc_E o' (ti_u C p (A ++ b :: c :: B) q) = (cc_E o (C q)).map ρ := by
    intro q
    by_cases hq : q = p
    · subst hq
      rw [ti_us, hC, cc_Ea, cc_Ec, cc_Ec, cc_Ea, cc_Ec, List.map_append, List.map_append, emap A (fun d hd => ⟨hnA d hd, okA d hd⟩), emap B (fun d hd => ⟨hnB d hd, okB d hd⟩), cc_Eg (fun d hd => ho3 d (hnA d hd) (hcA d hd)), cc_Eg (fun d hd => ho3 d (hnB d hd) (hcB d hd))]
      have eb : cc_e o' b = [4 * b + oo_c (o b) 0, 4 * b + oo_c (o b) 1] := by unfold cc_e; rw [ho2, n3]; rfl
      have ec : cc_e o' c = [4 * c, 4 * c + 1] := by unfold cc_e; rw [ho1, oo_2.2.2]; rfl
      have eo : (cc_e o b).map ρ = [4 * b + oo_c (o b) 0, 4 * b + oo_c (o b) 1, 4 * c, 4 * c + 1] := by
        unfold cc_e
        rw [n4]
        show [ρ (4 * b + oo_c (o b) 0), ρ (4 * b + oo_c (o b) 1), ρ (4 * b + oo_c (o b) 2), ρ (4 * b + oo_c (o b) 3)] = _
        rw [r2, r3, rn _ (by omega) (by omega), rn _ (by omega) (by omega)]
      rw [eb, ec, eo]
      rfl
    · rw [ti_un hq, emap (C q) (fun d hd => ⟨fun z => hq (i9 q p d hd (z ▸ hbp)), (i3 q d hd).2.1⟩)]
      exact cc_Eg (fun d hd => ho3 d (fun z => hq (i9 q p d hd (z ▸ hbp))) (hne q d hd))
  have tr : ∀ (a a' : Nat → Int32), a' (4 * c) = a (4 * b + oo_c (o b) 2) → a' (4 * c + 1) = a (4 * b + oo_c (o b) 3) → (∀ e, e ≠ 4 * c → e ≠ 4 * c + 1 → a' e = a e) → ∀ q e, e ∈ cc_E o (C q) → a' (ρ e) = a e := by
    intro a a' a1 a2 a3 q e he
    by_cases z2 : e = 4 * b + oo_c (o b) 2
    · rw [z2, r2, a1]
    · by_cases z3 : e = 4 * b + oo_c (o b) 3
      · rw [z3, r3, a2]
      · rw [rn e z2 z3]
        have := hne q _ (ti_E4 I' he).1
        exact a3 e (by omega) (by omega)
  have ts := tr sl sl' s1 s2 s3
  have tv := tr v v' v1 v2 v3
  have th := tr h h' h1 h2 h3
  have tw := tr w w' w1 w2 w3
  have tS : ∀ q e, e ∈ cc_E o (C q) → cc_s sl' (ρ e) = cc_s sl e := fun q e he => by unfold cc_s; rw [ts q e he]
  have hh : ∀ q, cc_h (ti_u C p (A ++ b :: c :: B) q) = cc_h (C q) := by
    intro q
    by_cases hq : q = p
    · subst hq
      rw [ti_us, hC]
      exact cc_hA
    · rw [ti_un hq]
  have hnn : ∀ q, ti_u C p (A ++ b :: c :: B) q ≠ [] ↔ C q ≠ [] := by
    intro q
    by_cases hq : q = p
    · subst hq
      rw [ti_us, hC]
      exact ⟨fun _ => by simp, fun _ => by simp⟩
    · rw [ti_un hq]
  have mC : ∀ q d, d ∈ ti_u C p (A ++ b :: c :: B) q → d ∈ C q ∨ (q = p ∧ d = c) := by
    intro q d hd
    by_cases hq : q = p
    · subst hq
      rw [ti_us] at hd
      rw [hC]
      rcases List.mem_append.mp hd with z | z
      · exact Or.inl (List.mem_append.mpr (Or.inl z))
      · rcases List.mem_cons.mp z with z | z
        · exact Or.inl (List.mem_append.mpr (Or.inr (by rw [z]; exact List.mem_cons_self)))
        · rcases List.mem_cons.mp z with z | z
          · exact Or.inr ⟨rfl, z⟩
          · exact Or.inl (List.mem_append.mpr (Or.inr (List.mem_cons_of_mem _ z)))
    · rw [ti_un hq] at hd
      exact Or.inl hd
  refine ⟨⟨by rw [hh]; exact i1, fun q => ?_, fun q d hd => ?_, fun q => ?_, fun q e' he' => ?_, fun e => ?_, fun e => ?_, fun q hq => ?_, fun q r d hq hr => ?_, fun q => ?_, hF, fun a ha => ?_, fun q e' he' hh1 => ?_⟩, fun q s hs e' he' => ?_⟩
  · by_cases hq : q = p
    · subst hq
      rw [ti_us]
      have k := i2 q
      rw [hC] at k
      refine cc_kput hnd (fun d hd => hne q d (by rw [hC]; exact hd)) k hf1 hf2 hf3
    · rw [ti_un hq]
      exact cc_kg (fun d hd => hf3 d (fun z => hq (i9 q p d hd (z ▸ hbp))) (hne q d hd)) (i2 q)
  · rcases mC q d hd with z | ⟨z1, z2⟩
    · by_cases zb : d = b
      · rw [zb, ho2, n2]
        exact ⟨(i3 p b hbp).1, n1, fun _ => by decide⟩
      · rw [ho3 d zb (hne q d z)]
        exact i3 q d z
    · rw [z2, ho1, oo_2.2.1]
      exact ⟨hc, oo_2.1, fun _ => by decide⟩
  · rw [eE q]
    exact List.pairwise_map.mpr ((i4 q).imp_of_mem (fun {a d} ha hd z => by rw [tS q a ha, tS q d hd]; exact z))
  · rw [eE q] at he'
    obtain ⟨e, he, rfl⟩ := List.mem_map.mp he'
    obtain ⟨a1, a2, a3⟩ := i5 q e he
    rw [tS q e he, tw q e he, th q e he, hh]
    exact ⟨a1, a2, fun z => (a3 z).imp id (fun y => (hnn _).mpr y)⟩
  · by_cases z1 : e = 4 * c
    · unfold cc_s
      rw [z1, s1]
      exact i6 _
    · by_cases z2 : e = 4 * c + 1
      · unfold cc_s
        rw [z2, s2]
        exact i6 _
      · unfold cc_s
        rw [s3 e z1 z2]
        exact i6 _
  · by_cases z1 : e = 4 * c
    · rw [z1, h1]; exact i7 _
    · by_cases z2 : e = 4 * c + 1
      · rw [z2, h2]; exact i7 _
      · rw [h3 e z1 z2]; exact i7 _
  · obtain ⟨a1, a2⟩ := i8 q ((hnn q).mp hq)
    refine ⟨a1, ?_⟩
    rcases a2 with z | ⟨e, he, hs⟩
    · exact Or.inl z
    · exact Or.inr ⟨ρ e, by rw [eE]; exact List.mem_map.mpr ⟨e, he, rfl⟩, by rw [tS _ e he]; exact hs⟩
  · rcases mC q d hq with z | ⟨z1, z2⟩ <;> rcases mC r d hr with y | ⟨y1, y2⟩
    · exact i9 q r d z y
    · exact absurd (y2 ▸ z) (hcf q)
    · exact absurd (z2 ▸ y) (hcf r)
    · rw [z1, y1]
  · by_cases hq : q = p
    · subst hq
      rw [ti_us]
      obtain ⟨m1, m2, m3⟩ := List.nodup_append.mp hnd
      obtain ⟨m4, m5⟩ := List.nodup_cons.mp m2
      refine List.nodup_append.mpr ⟨m1, List.nodup_cons.mpr ⟨fun z => ?_, List.nodup_cons.mpr ⟨fun z => hcB c z rfl, m5⟩⟩, fun a ha d hd z => ?_⟩
      · rcases List.mem_cons.mp z with z | z
        · exact hbc z
        · exact m4 z
      · rcases List.mem_cons.mp hd with y | y
        · exact hnA a ha (z.trans y)
        · rcases List.mem_cons.mp y with y | y
          · exact hcA a ha (z.trans y)
          · exact m3 a ha d (List.mem_cons_of_mem _ y) z
    · rw [ti_un hq]; exact i10 q
  · obtain ⟨e, he, a1, a2, a3⟩ := i12 a ha
    exact ⟨ρ e, by rw [eE]; exact List.mem_map.mpr ⟨e, he, rfl⟩, by rw [tS _ e he]; exact a1, by rw [th _ e he]; exact a2, by rw [tv _ e he]; exact a3⟩
  · rw [eE] at he'
    obtain ⟨e, he, rfl⟩ := List.mem_map.mp he'
    rw [th q e he] at hh1
    rw [tS q e he, tv q e he]
    exact i13 q e he hh1
  · rw [eE] at he'
    obtain ⟨e, he, rfl⟩ := List.mem_map.mp he'
    rw [tS q e he]
    exact hs e he
end
end
section
/-! pure steps of the tree, III -/
theorem cc_len {o : Nat → Int32} {b : Nat} : (cc_e o b).length = oo_z (o b) := by unfold cc_e oo_l; rw [List.length_map, List.length_map, List.length_range]
theorem cc_mid {o : Nat → Int32} {b k : Nat} (hk : k < oo_z (o b)) : cc_e o b = (cc_e o b).take k ++ (4 * b + oo_c (o b) k) :: (cc_e o b).drop (k + 1) := by
  have hl : k < (cc_e o b).length := by rw [cc_len]; exact hk
  have e1 : (cc_e o b)[k] = 4 * b + oo_c (o b) k := (cc_ei (List.getElem?_eq_getElem hl)).2
  rw [← e1, List.getElem_cons_drop, List.take_append_drop]
section
variable {x y : Nat} {C : Nat → List Nat} {K : List (Nat × Int32)} {top fc : Int32} {o f sl v h w fr : Nat → Int32}
/-- an empty entry leaves its node -/
theorem ti_drop {p b k : Nat} {A B : List Nat} (hC : C p = A ++ b :: B) (hk : k < oo_z (o b)) (I : ti_I (81 * p + cc_s sl (4 * b + oo_c (o b) k)) 6561 C K top fc o f sl v h w fr) (hh : h (4 * b + oo_c (o b) k) = 0) (hnil : C (81 * p + cc_s sl (4 * b + oo_c (o b) k)) = []) : ti_I p (if oo_z (o b) = 1 then p else 6561) C K top fc (upd o b (oo_del (o b) (nI (oo_c (o b) k)) k (oo_z (o b)))) f sl v h w fr ∧ (∀ q e, e ∈ cc_E o (C q) → e ≠ 4 * b + oo_c (o b) k → e ∈ cc_E (upd o b (oo_del (o b) (nI (oo_c (o b) k)) k (oo_z (o b)))) (C q)) ∧ oo_z (oo_del (o b) (nI (oo_c (o b) k)) k (oo_z (o b))) = oo_z (o b) - 1 := by
  have I' := I
  obtain ⟨i1, i2, i3, i4, i5, i6, i7, i8, i9, i10, i11, i12, i13⟩ := I
  have hbp : b ∈ C p := by rw [hC]; exact List.mem_append.mpr (Or.inr List.mem_cons_self)
  have hob := (i3 p b hbp).2.1
  have z4 := (oo_a _ hob).1
  obtain ⟨n1, n2, n3⟩ := oo_x (o b) hob k (by omega) hk
  have hnd := i10 p
  rw [hC] at hnd
  have hnA : ∀ c ∈ A, c ≠ b := fun c hc q => (List.nodup_append.mp hnd).2.2 c hc b List.mem_cons_self q
  have hnB : ∀ c ∈ B, c ≠ b := fun c hc q => (List.nodup_cons.mp (List.nodup_append.mp hnd).2.1).1 (q ▸ hc)
  have hmid := cc_mid hk
  have hein : 4 * b + oo_c (o b) k ∈ cc_e o b := cc_me.mpr ⟨k, hk, rfl⟩
  generalize hen : 4 * b + oo_c (o b) k = en at *
  generalize hon : oo_del (o b) (nI (oo_c (o b) k)) k (oo_z (o b)) = on at *
  have eE : cc_E o (C p) = (cc_E o A ++ (cc_e o b).take k) ++ en :: ((cc_e o b).drop (k + 1) ++ cc_E o B) := by
    rw [hC, cc_Ea, cc_Ec]
    conv => lhs; rw [hmid]
    simp only [List.append_assoc, List.cons_append]
  have eN : cc_E (upd o b on) (C p) = (cc_E o A ++ (cc_e o b).take k) ++ ((cc_e o b).drop (k + 1) ++ cc_E o B) := by
    have e1 : cc_e (upd o b on) b = (cc_e o b).take k ++ (cc_e o b).drop (k + 1) := by
      unfold cc_e
      rw [pk_us, n3, List.map_append, List.map_take, List.map_drop]
    rw [hC, cc_Ea, cc_Ec, e1, cc_Eg (fun c hc => pk_un (hnA c hc)), cc_Eg (fun c hc => pk_un (hnB c hc))]
    simp only [List.append_assoc]
  have eQ : ∀ q, q ≠ p → cc_E (upd o b on) (C q) = cc_E o (C q) := fun q hq => cc_Eg (fun c hc => pk_un (fun z => hq (i9 q p b (z ▸ hc) hbp)))
  have henp : en ∈ cc_E o (C p) := by rw [eE]; exact List.mem_append.mpr (Or.inr List.mem_cons_self)
  have e4 : en / 4 = b := (cc_e4 hob hein).1
  have hep : ∀ q, en ∈ cc_E o (C q) → q = p := fun q hq => by
    have a := (ti_E4 I' hq).1
    rw [e4] at a
    exact i9 q p b a hbp
  have hp4 := i4 p
  rw [eE] at hp4
  obtain ⟨p1, p2, p3⟩ := List.pairwise_append.mp hp4
  obtain ⟨p4, p5⟩ := List.pairwise_cons.mp p2
  have mO : ∀ q e, e ∈ cc_E o (C q) → e ≠ en → e ∈ cc_E (upd o b on) (C q) := by
    intro q e he hne
    by_cases hq : q = p
    · subst hq
      rw [eE] at he
      rw [eN]
      rcases List.mem_append.mp he with z | z
      · exact List.mem_append.mpr (Or.inl z)
      · rcases List.mem_cons.mp z with z | z
        · exact absurd z hne
        · exact List.mem_append.mpr (Or.inr z)
    · rw [eQ q hq]
      exact he
  have mQ : ∀ q e, e ∈ cc_E (upd o b on) (C q) → e ∈ cc_E o (C q) ∧ e ≠ en := by
    intro q e he
    by_cases hq : q = p
    · subst hq
      rw [eN] at he
      rw [eE]
      rcases List.mem_append.mp he with z | z
      · refine ⟨List.mem_append.mpr (Or.inl z), fun y => ?_⟩
        have := p3 e z en List.mem_cons_self
        rw [y] at this
        omega
      · refine ⟨List.mem_append.mpr (Or.inr (List.mem_cons_of_mem _ z)), fun y => ?_⟩
        have := p4 e z
        rw [y] at this
        omega
    · rw [eQ q hq] at he
      refine ⟨he, fun y => hq (hep q (y ▸ he))⟩
  refine ⟨⟨i1, i2, fun q c hc => ?_, fun q => ?_, fun q e he => ?_, i6, i7, fun q hq => ?_, i9, i10, i11, fun a ha => ?_, fun q e he h1 => ?_⟩, mO, n2⟩
  · by_cases z : c = b
    · subst z
      rw [pk_us, n2]
      refine ⟨(i3 q c hc).1, n1, fun zq => ?_⟩
      have eq := i9 q p c hc hbp
      rcases Nat.lt_or_ge 1 (oo_z (o c)) with y | y
      · omega
      · rw [if_pos (by omega)] at zq
        exact absurd eq zq
    · rw [pk_un z]
      obtain ⟨a1, a2, a3⟩ := i3 q c hc
      refine ⟨a1, a2, fun _ => a3 (fun y => ?_)⟩
      have := (i8 q (fun yy => by rw [yy] at hc; cases hc)).1
      omega
  · by_cases hq : q = p
    · subst hq
      rw [eN]
      exact List.pairwise_append.mpr ⟨p1, p5, fun a ha c hc => p3 a ha c (List.mem_cons_of_mem _ hc)⟩
    · rw [eQ q hq]; exact i4 q
  · obtain ⟨m1, m2⟩ := mQ q e he
    obtain ⟨a1, a2, a3⟩ := i5 q e m1
    refine ⟨a1, a2, fun _ => a3 (fun z => m2 ?_)⟩
    have s1 := (i6 e).1
    have s2 := (i6 en).1
    have hqp : q = p := by omega
    subst hqp
    exact cc_puq (i4 q) e m1 en henp (by omega)
  · obtain ⟨a1, a2⟩ := i8 q hq
    refine ⟨a1, ?_⟩
    rcases a2 with z | ⟨e, he, hs⟩
    · exact Or.inl z
    · refine Or.inr ⟨e, mO _ e he (fun y => hq ?_), hs⟩
      rw [y] at he hs
      have := hep _ he
      have e2 : q = 81 * p + cc_s sl en := by omega
      rw [e2]
      exact hnil
  · obtain ⟨e, he, a1, a2, a3⟩ := i12 a ha
    exact ⟨e, mO _ e he (fun y => by rw [y, hh] at a2; exact absurd a2 (by decide)), a1, a2, a3⟩
  · exact i13 q e (mQ q e he).1 h1
/-- an empty node leaves its layer -/
theorem ti_unl {p b : Nat} {A B : List Nat} {top' fc' : Int32} {f' w' fr' : Nat → Int32} (hC : C p = A ++ b :: B) (hz : oo_z (o b) = 0) (I : ti_I p p C K top fc o f sl v h w fr) (hy : ∀ c, c ∈ C p → c ≠ b → 1 ≤ oo_z (o c)) (hk : cc_k f' (A ++ B)) (hf : ∀ d, d ∉ C p → f' d = f d) (hF : ti_F (ti_u C p (A ++ B)) fc' fr') (ht : top' = if p = 0 then cc_h (A ++ B) else top) (hw : ∀ q e, e ∈ cc_E o (C q) → w' e = if 81 * q + cc_s sl e = p then cc_h (A ++ B) else w e) : ti_I p 6561 (ti_u C p (A ++ B)) K top' fc' o f' sl v h w' fr' ∧ ∀ q, cc_E o (ti_u C p (A ++ B) q) = cc_E o (C q) := by
  obtain ⟨i1, i2, i3, i4, i5, i6, i7, i8, i9, i10, i11, i12, i13⟩ := I
  have eE : ∀ q, cc_E o (ti_u C p (A ++ B) q) = cc_E o (C q) := by
    intro q
    by_cases hq : q = p
    · subst hq
      have e1 : cc_e o b = [] := List.eq_nil_of_length_eq_zero (by rw [cc_len]; exact hz)
      rw [ti_us, hC, cc_Ea, cc_Ea, cc_Ec, e1, List.nil_append]
    · rw [ti_un hq]
  have mC : ∀ q c, c ∈ ti_u C p (A ++ B) q → c ∈ C q ∧ c ≠ b := by
    intro q c hc
    have hnd := i10 p
    rw [hC] at hnd
    by_cases hq : q = p
    · subst hq
      rw [ti_us] at hc
      rw [hC]
      rcases List.mem_append.mp hc with z | z
      · exact ⟨List.mem_append.mpr (Or.inl z), fun y => (List.nodup_append.mp hnd).2.2 c z b List.mem_cons_self y⟩
      · exact ⟨List.mem_append.mpr (Or.inr (List.mem_cons_of_mem _ z)), fun y => (List.nodup_cons.mp (List.nodup_append.mp hnd).2.1).1 (y ▸ z)⟩
    · rw [ti_un hq] at hc
      refine ⟨hc, fun y => hq (i9 q p b (y ▸ hc) ?_)⟩
      rw [hC]
      exact List.mem_append.mpr (Or.inr List.mem_cons_self)
  have hnn : ∀ q, ti_u C p (A ++ B) q ≠ [] → C q ≠ [] := by
    intro q hq
    by_cases z : q = p
    · subst z
      rw [hC]
      simp
    · rw [ti_un z] at hq
      exact hq
  refine ⟨⟨?_, fun q => ?_, fun q c hc => ?_, fun q => ?_, fun q e he => ?_, i6, i7, fun q hq => ?_, fun q r c hq hr => ?_, fun q => ?_, hF, fun a ha => ?_, fun q e he hh => ?_⟩, eE⟩
  · rw [ht]
    by_cases z : p = 0
    · rw [if_pos z, z, ti_us]
    · rw [if_neg z, ti_un (fun q => z q.symm)]; exact i1
  · by_cases hq : q = p
    · subst hq
      rw [ti_us]; exact hk
    · rw [ti_un hq]
      exact cc_kg (fun d hd => hf d (fun z => hq (i9 q p d hd z))) (i2 q)
  · obtain ⟨m1, m2⟩ := mC q c hc
    obtain ⟨a1, a2, a3⟩ := i3 q c m1
    refine ⟨a1, a2, fun _ => ?_⟩
    by_cases hq : q = p
    · subst hq
      exact hy c m1 m2
    · exact a3 hq
  · rw [eE q]; exact i4 q
  · rw [eE q] at he
    obtain ⟨a1, a2, a3⟩ := i5 q e he
    rw [hw q e he]
    by_cases z : 81 * q + cc_s sl e = p
    · rw [if_pos z, z, ti_us]
      exact ⟨a1, rfl, fun y => absurd rfl y⟩
    · rw [if_neg z, ti_un z]
      exact ⟨a1, a2, a3⟩
  · obtain ⟨a1, a2⟩ := i8 q (hnn q hq)
    refine ⟨a1, ?_⟩
    rcases a2 with z | ⟨e, he, hs⟩
    · exact Or.inl z
    · exact Or.inr ⟨e, by rw [eE]; exact he, hs⟩
  · exact i9 q r c (mC q c hq).1 (mC r c hr).1
  · by_cases hq : q = p
    · subst hq
      rw [ti_us]
      have hnd := i10 q
      rw [hC] at hnd
      obtain ⟨m1, m2, m3⟩ := List.nodup_append.mp hnd
      exact List.nodup_append.mpr ⟨m1, (List.nodup_cons.mp m2).2, fun a ha c hc => m3 a ha c (List.mem_cons_of_mem _ hc)⟩
    · rw [ti_un hq]; exact i10 q
  · obtain ⟨e, he, a⟩ := i12 a ha
    exact ⟨e, by rw [eE]; exact he, a⟩
  · rw [eE] at he
    exact i13 q e he hh
theorem ti_uq (I : ti_I x y C K top fc o f sl v h w fr) {p q e e' : Nat} (he : e ∈ cc_E o (C p)) (he' : e' ∈ cc_E o (C q)) (hs : 81 * p + cc_s sl e = 81 * q + cc_s sl e') : e = e' := by
  obtain ⟨i1, i2, i3, i4, i5, i6, _⟩ := I
  have s1 := (i6 e).1
  have s2 := (i6 e').1
  have hpq : p = q := by omega
  subst hpq
  exact cc_puq (i4 p) e he e' he' (by omega)
theorem ti_pq (I : ti_I x y C K top fc o f sl v h w fr) {p q e : Nat} (he : e ∈ cc_E o (C p)) (he' : e ∈ cc_E o (C q)) : p = q := by
  have a := (ti_E4 I he).1
  have b := (ti_E4 I he').1
  exact I.2.2.2.2.2.2.2.2.1 p q _ a b
/-- a word comes, or gets another value -/
theorem ti_hold {K' : List (Nat × Int32)} {p e n : Nat} {z : Int32} {h' : Nat → Int32} (hn : ww_w n) (hp : ww_p n = 81 * p + cc_s sl e) (I : ti_I (ww_p n) 6561 C K top fc o f sl v h w fr) (he : e ∈ cc_E o (C p)) (hK : ∀ a, a ∈ K → ww_w a.1) (hK' : ∀ a, a ∈ K' ↔ (a ∈ K ∧ a.1 ≠ n) ∨ a = (n, z)) (h1 : h' e = 1) (h2 : ∀ e', e' ≠ e → h' e' = h e') : ti_I 0 6561 C K' top fc o f sl (upd v e z) h' w fr := by
  have I' := I
  obtain ⟨i1, i2, i3, i4, i5, i6, i7, i8, i9, i10, i11, i12, i13⟩ := I
  refine ⟨i1, i2, i3, i4, fun q e' he' => ?_, i6, fun e' => ?_, i8, i9, i10, i11, fun a ha => ?_, fun q e' he' hh => ?_⟩
  · obtain ⟨a1, a2, a3⟩ := i5 q e' he'
    refine ⟨a1, a2, fun _ => ?_⟩
    by_cases y : e' = e
    · rw [y]; exact Or.inl h1
    · rw [h2 e' y]
      refine a3 (fun r => y (ti_uq I' he' he ?_))
      rw [← hp]; exact r
  · by_cases y : e' = e
    · rw [y]; exact Or.inr h1
    · rw [h2 e' y]; exact i7 e'
  · rcases (hK' a).mp ha with ⟨m1, m2⟩ | m
    · obtain ⟨e', he', a1, a2, a3⟩ := i12 a m1
      have ne : e' ≠ e := fun y => m2 (by
        rw [y] at he' a1
        have := ti_pq I' he' he
        exact ww_pinj (hK a m1) hn (by omega))
      exact ⟨e', he', a1, by rw [h2 e' ne]; exact a2, by rw [pk_un ne]; exact a3⟩
    · rw [m]
      have s1 := (i6 e).1
      have e1 : ww_p n / 81 = p := by omega
      have e2 : ww_p n % 81 = cc_s sl e := by omega
      refine ⟨e, ?_, ?_, h1, pk_us⟩
      · show e ∈ cc_E o (C (ww_p n / 81))
        rw [e1]; exact he
      · show cc_s sl e = ww_p n % 81
        exact e2.symm
  · by_cases y : e' = e
    · subst y
      have := ti_pq I' he' he
      subst this
      exact ⟨(n, z), (hK' _).mpr (Or.inr rfl), hp, pk_us⟩
    · rw [h2 e' y] at hh
      rw [pk_un y]
      obtain ⟨a, a1, a2, a3⟩ := i13 q e' he' hh
      refine ⟨a, (hK' a).mpr (Or.inl ⟨a1, fun r => y (ti_uq I' he' he ?_)⟩), a2, a3⟩
      rw [← a2, ← hp, r]
/-- a word goes -/
theorem ti_free {K' : List (Nat × Int32)} {p e n : Nat} {h' : Nat → Int32} (hn : ww_w n) (hp : ww_p n = 81 * p + cc_s sl e) (I : ti_I 0 6561 C K top fc o f sl v h w fr) (he : e ∈ cc_E o (C p)) (hK : ∀ a, a ∈ K → ww_w a.1) (hK' : ∀ a, a ∈ K' ↔ (a ∈ K ∧ a.1 ≠ n)) (h1 : h' e = 0) (h2 : ∀ e', e' ≠ e → h' e' = h e') : ti_I (ww_p n) 6561 C K' top fc o f sl v h' w fr := by
  have I' := I
  obtain ⟨i1, i2, i3, i4, i5, i6, i7, i8, i9, i10, i11, i12, i13⟩ := I
  refine ⟨i1, i2, i3, i4, fun q e' he' => ?_, i6, fun e' => ?_, i8, i9, i10, i11, fun a ha => ?_, fun q e' he' hh => ?_⟩
  · obtain ⟨a1, a2, a3⟩ := i5 q e' he'
    refine ⟨a1, a2, fun r => ?_⟩
    have y : e' ≠ e := fun y => by
      subst y
      have := ti_pq I' he' he
      subst this
      exact r hp.symm
    rw [h2 e' y]
    exact a3 (by omega)
  · by_cases y : e' = e
    · rw [y]; exact Or.inl h1
    · rw [h2 e' y]; exact i7 e'
  · obtain ⟨m1, m2⟩ := (hK' a).mp ha
    obtain ⟨e', he', a1, a2, a3⟩ := i12 a m1
    have ne : e' ≠ e := fun y => m2 (by
      rw [y] at he' a1
      have := ti_pq I' he' he
      exact ww_pinj (hK a m1) hn (by omega))
    exact ⟨e', he', a1, by rw [h2 e' ne]; exact a2, a3⟩
  · have y : e' ≠ e := fun y => by
      rw [y, h1] at hh
      exact absurd hh (by decide)
    rw [h2 e' y] at hh
    obtain ⟨a, a1, a2, a3⟩ := i13 q e' he' hh
    refine ⟨a, (hK' a).mpr ⟨a1, fun r => y (ti_uq I' he' he ?_)⟩, a2, a3⟩
    rw [← a2, ← hp, r]
end
/-! counting -/
theorem cc_cover {α : Type} {R : α → Nat → Prop} (hR : ∀ a b c, R a b → R a c → b = c) : ∀ (A : List α) (L : List Nat), L.Nodup → (∀ b, b ∈ L → ∃ a, a ∈ A ∧ R a b) → L.length ≤ A.length := by
  intro A
  induction A with
  | nil =>
    intro L hn h
    cases L with
    | nil => exact Nat.le_refl _
    | cons b L =>
      obtain ⟨a, ha, _⟩ := h b List.mem_cons_self
      cases ha
  | cons a A ih =>
    intro L hn h
    rcases Classical.em (∃ b, b ∈ L ∧ R a b) with ⟨b, hb, hr⟩ | q
    · have h1 := ih (L.erase b) (hn.erase b) (fun c hc => by
        obtain ⟨hcb, hcL⟩ := hn.mem_erase_iff.mp hc
        obtain ⟨d, hd, hdr⟩ := h c hcL
        rcases List.mem_cons.mp hd with z | z
        · exact absurd (hR a c b (z ▸ hdr) hr) hcb
        · exact ⟨d, z, hdr⟩)
      have h2 := List.length_erase_of_mem hb
      rw [List.length_cons]
      omega
    · have h1 := ih L hn (fun c hc => by
        obtain ⟨d, hd, hdr⟩ := h c hc
        rcases List.mem_cons.mp hd with z | z
        · exact absurd ⟨c, hc, z ▸ hdr⟩ q
        · exact ⟨d, z, hdr⟩)
      rw [List.length_cons]
      omega
section
variable {x y : Nat} {C : Nat → List Nat} {K : List (Nat × Int32)} {top fc : Int32} {o f sl v h w fr : Nat → Int32}
/-- below every entry there is a held word, or the excepted path -/
theorem ti_desc (I : ti_I x 6561 C K top fc o f sl v h w fr) {p e : Nat} (he : e ∈ cc_E o (C p)) : ∃ t j, (t = x ∨ ∃ a, a ∈ K ∧ ww_p a.1 = t) ∧ j < 3 ∧ t / 81 ^ j = 81 * p + cc_s sl e := by
  obtain ⟨i1, i2, i3, i4, i5, i6, i7, i8, i9, i10, i11, i12, i13⟩ := I
  have step : ∀ p e, e ∈ cc_E o (C p) → (81 * p + cc_s sl e = x ∨ ∃ a, a ∈ K ∧ ww_p a.1 = 81 * p + cc_s sl e) ∨ (81 * p + cc_s sl e < 6561 ∧ ∃ e', e' ∈ cc_E o (C (81 * p + cc_s sl e))) := by
    intro p e he
    by_cases q : 81 * p + cc_s sl e = x
    · exact Or.inl (Or.inl q)
    · rcases (i5 p e he).2.2 q with z | z
      · obtain ⟨a, a1, a2, _⟩ := i13 p e he z
        exact Or.inl (Or.inr ⟨a, a1, a2⟩)
      · have a8 := (i8 _ z).1
        refine Or.inr ⟨a8, ?_⟩
        cases hc : C (81 * p + cc_s sl e) with
        | nil => exact absurd hc z
        | cons b B =>
          have := (i3 _ b (by rw [hc]; exact List.mem_cons_self)).2.2 (by omega)
          exact ⟨_, cc_mE.mpr ⟨b, List.mem_cons_self, cc_s0 this⟩⟩
  have nine : ∀ p e, e ∈ cc_E o (C p) → 9 ≤ cc_s sl e ∧ cc_s sl e < 81 := fun p e he => ⟨(i5 p e he).1, (i6 e).1⟩
  have n0 := nine p e he
  rcases step p e he with z | ⟨l1, e1, he1⟩
  · exact ⟨_, 0, z, by decide, by rw [Nat.pow_zero, Nat.div_one]⟩
  · have n1 := nine _ e1 he1
    generalize hp1 : 81 * p + cc_s sl e = p1 at *
    rcases step p1 e1 he1 with z | ⟨l2, e2, he2⟩
    · exact ⟨_, 1, z, by decide, by rw [Nat.pow_one]; omega⟩
    · have n2 := nine _ e2 he2
      generalize hp2 : 81 * p1 + cc_s sl e1 = p2 at *
      rcases step p2 e2 he2 with z | ⟨l3, e3, he3⟩
      · exact ⟨_, 2, z, by decide, by show (81 * p2 + cc_s sl e2) / 6561 = p1; omega⟩
      · omega
theorem ti_room (I : ti_I x 6561 C K top fc o f sl v h w fr) (hK : K.length ≤ 39) : fc ≠ 0 := by
  intro hfc
  obtain ⟨F, e1, e2, e3, e4⟩ := I.2.2.2.2.2.2.2.2.2.2.1
  have hl : F.length ≤ (List.range 122).length := List.Nodup.length_le_of_subset e3 (fun b hb => List.mem_range.mpr ((e4 b).mp hb).1)
  rw [List.length_range] at hl
  have F0 : F.length = 0 := by
    rw [e1, ← nI_0] at hfc
    exact (nI_eq (by omega) (by omega)).mp hfc
  have Fn : F = [] := List.eq_nil_of_length_eq_zero F0
  have key := cc_cover (R := fun (a : Nat × Nat) b => ∃ e, e ∈ cc_E o (C (a.1 / 81 ^ a.2 / 81)) ∧ cc_s sl e = a.1 / 81 ^ a.2 % 81 ∧ e / 4 = b)
    (fun a b c hb hc => by
      obtain ⟨e, he, hs, hd⟩ := hb
      obtain ⟨e', he', hs', hd'⟩ := hc
      have := ti_uq I he he' (by omega)
      rw [← hd, ← hd', this])
    ((x :: K.map (fun a => ww_p a.1)).flatMap (fun t => [(t, 0), (t, 1), (t, 2)])) (List.range 122) List.nodup_range (fun b hb => by
      have hb1 := List.mem_range.mp hb
      have hex : ∃ p, b ∈ C p := by
        rcases Classical.em (∃ p, b ∈ C p) with q | q
        · exact q
        · have := (e4 b).mpr ⟨hb1, fun p hp => q ⟨p, hp⟩⟩
          rw [Fn] at this
          cases this
      obtain ⟨p, hp⟩ := hex
      have I' := I
      obtain ⟨i1, i2, i3, i4, i5, i6, i7, i8, _⟩ := I'
      have hb3 := i3 p b hp
      have hz := hb3.2.2 (fun z => by
        have := (i8 p (fun yy => by rw [yy] at hp; cases hp)).1
        omega)
      have hin : 4 * b + oo_c (o b) 0 ∈ cc_E o (C p) := cc_mE.mpr ⟨b, hp, cc_s0 hz⟩
      obtain ⟨t, j, ht, hj, hd⟩ := ti_desc I hin
      have s81 := (i6 (4 * b + oo_c (o b) 0)).1
      refine ⟨(t, j), List.mem_flatMap.mpr ⟨t, ?_, ?_⟩, 4 * b + oo_c (o b) 0, ?_, ?_, (cc_e4 hb3.2.1 (cc_s0 hz)).1⟩
      · rcases ht with z | ⟨a, a1, a2⟩
        · rw [z]; exact List.mem_cons_self
        · exact List.mem_cons_of_mem _ (List.mem_map.mpr ⟨a, a1, a2⟩)
      · have : j = 0 ∨ j = 1 ∨ j = 2 := by omega
        rcases this with rfl | rfl | rfl <;> simp
      · show _ ∈ cc_E o (C (t / 81 ^ j / 81))
        rw [hd]
        have e5 : (81 * p + cc_s sl (4 * b + oo_c (o b) 0)) / 81 = p := by omega
        rw [e5]
        exact hin
      · show _ = t / 81 ^ j % 81
        rw [hd]
        omega)
  rw [List.length_range, List.length_flatMap] at key
  have hs : ∀ l : List Nat, (l.map (fun t => ([(t, 0), (t, 1), (t, 2)] : List (Nat × Nat)).length)).sum = 3 * l.length := by
    intro l
    induction l with
    | nil => rfl
    | cons a l ih =>
      have e5 : (a :: l).length = l.length + 1 := List.length_cons
      rw [List.map_cons, List.sum_cons, ih, e5]
      show 3 + _ = _
      omega
  rw [hs, List.length_cons, List.length_map] at key
  omega
end
theorem oo_s0 : ∀ o ∈ oo_all, oo_z o = 4 → oo_c ((o &&& (-16)) ||| 2) 0 = oo_c o 0 := by decide +kernel
theorem cc_inc {o sl : Nat → Int32} {b : Nat} (hp : (cc_e o b).Pairwise (fun a c => cc_s sl a < cc_s sl c)) {i j : Nat} (hij : i < j) (hj : j < oo_z (o b)) : cc_s sl (4 * b + oo_c (o b) i) < cc_s sl (4 * b + oo_c (o b) j) := by
  unfold cc_e oo_l at hp
  rw [List.map_map, List.pairwise_map] at hp
  have := List.pairwise_iff_getElem.mp hp i j (by rw [List.length_range]; omega) (by rw [List.length_range]; omega) hij
  rw [List.getElem_range, List.getElem_range] at this
  exact this
theorem cc_ksuf {f : Nat → Int32} : ∀ {A L : List Nat}, cc_k f (A ++ L) → cc_k f L := by
  intro A
  induction A with
  | nil => intro L h; exact h
  | cons a A ih => intro L h; exact ih h.2
end
section
/-! the walks that change the tree: takeNode, setHead, split, insert -/
theorem xt_nar {z : Int32} (h : z = 0 ∨ z = 1) : vp_nar .boolean z = z := by
  rcases h with h | h <;> rw [h] <;> decide
section
variable {f_top f_freeCount f_count f_listed f_current : Int32} {a_orders a_follower a_slices a_values a_held a_below a_freeNodes a_path a_wordAt a_valueAt a_node a_spot : Nat → Int32}
theorem xt_take {post : Int32 → SX → Prop} {n c : Nat} (hfc : f_freeCount = nI (n + 1)) (hn : n < 122) (hc : c < 122) (hfr : a_freeNodes n = nI c) (h : post (nI c) (f_top, nI n, f_count, f_listed, f_current, upd a_orders c 205056, upd a_follower c (-1), a_slices, a_values, a_held, a_below, a_freeNodes, a_path, a_wordAt, a_valueAt, a_node, a_spot)) : wpX_takeNode post (f_top, f_freeCount, f_count, f_listed, f_current, a_orders, a_follower, a_slices, a_values, a_held, a_below, a_freeNodes, a_path, a_wordAt, a_valueAt, a_node, a_spot) := by
  unfold wpX_takeNode
  dsimp only
  refine nm_r (e' := nI n) (by rw [hfc]; exact nI_pred n) ⟨vp_in_nI hn (by decide), ?_⟩
  rw [nI_clamp (n := n) (by omega)]
  refine nm_r hfr ?_
  have v : vp_in (nI c) 122 := vp_in_nI hc (by decide)
  rw [nI_clamp (n := c) (by omega)]
  exact ⟨v, nm_e ⟨v, nm_e h⟩⟩
theorem xt_set0 {post : SX → Prop} {z : Int32} (h : post (z, f_freeCount, f_count, f_listed, f_current, a_orders, a_follower, a_slices, a_values, a_held, a_below, a_freeNodes, a_path, a_wordAt, a_valueAt, a_node, a_spot)) : wpX_setHead post (f_top, f_freeCount, f_count, f_listed, f_current, a_orders, a_follower, a_slices, a_values, a_held, a_below, a_freeNodes, a_path, a_wordAt, a_valueAt, a_node, a_spot) (-1) z := by
  unfold wpX_setHead
  dsimp only
  exact br_t rfl h
theorem xt_set1 {post : SX → Prop} {z : Int32} {e : Nat} (he : e < 488) (h : post (f_top, f_freeCount, f_count, f_listed, f_current, a_orders, a_follower, a_slices, a_values, a_held, upd a_below e z, a_freeNodes, a_path, a_wordAt, a_valueAt, a_node, a_spot)) : wpX_setHead post (f_top, f_freeCount, f_count, f_listed, f_current, a_orders, a_follower, a_slices, a_values, a_held, a_below, a_freeNodes, a_path, a_wordAt, a_valueAt, a_node, a_spot) (nI e) z := by
  unfold wpX_setHead
  dsimp only
  refine br_f (fun q => ?_) ⟨vp_in_nI he (by decide), ?_⟩
  · have := nI_pos (n := e) (by omega)
    rw [q] at this
    exact absurd (by decide) this
  · rw [nI_clamp (n := e) (by omega)]
    exact nm_e h
theorem xt_sp1 {post : SX → Prop} {b c k n : Nat} (hk : k < 2) (hb : b < 122) (hc : c < 122) (hob : a_orders b ∈ oo_all) (h01 : ∀ e, a_held e = 0 ∨ a_held e = 1) (h : wX_split_26 post (nI b) (nI c) f_top f_freeCount f_count f_listed f_current n (nI (k + 1)) a_orders a_follower (upd a_slices (4 * c + k) (a_slices (4 * b + oo_c (a_orders b) (2 + k)))) (upd a_values (4 * c + k) (a_values (4 * b + oo_c (a_orders b) (2 + k)))) (upd a_held (4 * c + k) (a_held (4 * b + oo_c (a_orders b) (2 + k)))) (upd a_below (4 * c + k) (a_below (4 * b + oo_c (a_orders b) (2 + k)))) a_freeNodes a_path a_wordAt a_valueAt a_node a_spot) : wX_split_26 post (nI b) (nI c) f_top f_freeCount f_count f_listed f_current (n + 1) (nI k) a_orders a_follower a_slices a_values a_held a_below a_freeNodes a_path a_wordAt a_valueAt a_node a_spot := by
  rw [wX_split_26]
  refine br_f (nI_ge (b := 2) hk (by decide)) ?_
  rw [xw_p2a]
  refine cc_entryAt hb hob (by omega) ?_
  have hin := cc_in hb hob (k := 2 + k) (by omega)
  have vr : vp_in (nI (4 * b + oo_c (a_orders b) (2 + k))) 488 := vp_in_nI hin (by decide)
  have vx : vp_in (nI (4 * c + k)) 488 := vp_in_nI (by omega) (by decide)
  refine nm_r (e' := nI (4 * c + k)) (by rw [xw_4m, nI_add]) ?_
  rw [nI_clamp (n := 4 * c + k) (by omega), nI_clamp (n := 4 * b + oo_c (a_orders b) (2 + k)) (by omega), xt_nar (h01 _)]
  exact ⟨vr, vx, nm_e ⟨vr, vx, nm_e ⟨vr, vx, nm_e ⟨vr, vx, nm_e (nm_r (nI_1 k) h)⟩⟩⟩⟩
theorem xt_split {post : SX → Prop} {n c b : Nat} (hfc : f_freeCount = nI (n + 1)) (hn : n < 122) (hc : c < 122) (hfr : a_freeNodes n = nI c) (hb : b < 122) (hbc : b ≠ c) (hob : a_orders b ∈ oo_all) (h01 : ∀ e, a_held e = 0 ∨ a_held e = 1) (h : ∀ o' f' sl' v' h' w' : Nat → Int32, o' c = 205058 → o' b = (a_orders b &&& (-16)) ||| 2 → (∀ d, d ≠ b → d ≠ c → o' d = a_orders d) → f' b = nI c → f' c = a_follower b → (∀ d, d ≠ b → d ≠ c → f' d = a_follower d) → (∀ a a', (a, a') = (a_slices, sl') ∨ (a, a') = (a_values, v') ∨ (a, a') = (a_held, h') ∨ (a, a') = (a_below, w') → a' (4 * c) = a (4 * b + oo_c (a_orders b) 2) ∧ a' (4 * c + 1) = a (4 * b + oo_c (a_orders b) 3) ∧ ∀ e, e ≠ 4 * c → e ≠ 4 * c + 1 → a' e = a e) → post (f_top, nI n, f_count, f_listed, f_current, o', f', sl', v', h', w', a_freeNodes, a_path, a_wordAt, a_valueAt, a_node, a_spot)) : wpX_split post (f_top, f_freeCount, f_count, f_listed, f_current, a_orders, a_follower, a_slices, a_values, a_held, a_below, a_freeNodes, a_path, a_wordAt, a_valueAt, a_node, a_spot) (nI b) := by
  unfold wpX_split
  dsimp only
  refine xt_take hfc hn hc hfr ?_
  dsimp only
  have vb : vp_in (nI b) 122 := vp_in_nI hb (by decide)
  have vc : vp_in (nI c) 122 := vp_in_nI hc (by decide)
  rw [nI_clamp (n := b) (by omega), nI_clamp (n := c) (by omega)]
  refine ⟨vb, vc, nm_e ⟨vb, nm_e ⟨3, ?_⟩⟩⟩
  have ob : upd a_orders c 205056 b = a_orders b := pk_un hbc
  have hob' : upd a_orders c 205056 b ∈ oo_all := by rw [ob]; exact hob
  have b2 := (oo_b _ hob 2 (by decide)).1
  have b3 := (oo_b _ hob 3 (by decide)).1
  refine xt_sp1 (k := 0) (by decide) hb hc hob' h01 ?_
  refine xt_sp1 (k := 1) (by decide) hb hc hob' (fun e => ?_) ?_
  · by_cases q : e = 4 * c + 0
    · rw [q, pk_us]; exact h01 _
    · rw [pk_un q]; exact h01 _
  rw [wX_split_26]
  refine br_t (by decide) ?_
  rw [nI_clamp (n := b) (by omega), nI_clamp (n := c) (by omega), ob]
  refine ⟨vc, nm_e ⟨vb, vb, nm_e (h _ _ _ _ _ _ ?_ ?_ ?_ ?_ ?_ ?_ ?_)⟩⟩
  · rw [pk_un (fun q => hbc q.symm), pk_us]
  · rw [pk_us, pk_un hbc, pk_un hbc]
  · intro d d1 d2
    rw [pk_un d1, pk_un d2, pk_un d2]
  · exact pk_us
  · rw [pk_un (fun q => hbc q.symm), pk_us, pk_un hbc]
  · intro d d1 d2
    rw [pk_un d1, pk_un d2, pk_un d2]
  · have key : ∀ a : Nat → Int32, upd (upd a (4 * c + 0) (a (4 * b + oo_c (a_orders b) (2 + 0)))) (4 * c + 1) (upd a (4 * c + 0) (a (4 * b + oo_c (a_orders b) (2 + 0))) (4 * b + oo_c (a_orders b) (2 + 1))) (4 * c) = a (4 * b + oo_c (a_orders b) 2) ∧ upd (upd a (4 * c + 0) (a (4 * b + oo_c (a_orders b) (2 + 0)))) (4 * c + 1) (upd a (4 * c + 0) (a (4 * b + oo_c (a_orders b) (2 + 0))) (4 * b + oo_c (a_orders b) (2 + 1))) (4 * c + 1) = a (4 * b + oo_c (a_orders b) 3) ∧ ∀ e, e ≠ 4 * c → e ≠ 4 * c + 1 → upd (upd a (4 * c + 0) (a (4 * b + oo_c (a_orders b) (2 + 0)))) (4 * c + 1) (upd a (4 * c + 0) (a (4 * b + oo_c (a_orders b) (2 + 0))) (4 * b + oo_c (a_orders b) (2 + 1))) e = a e := by
      intro a
      refine ⟨?_, ?_, fun e e1 e2 => ?_⟩
      · rw [pk_un (by omega)]; exact pk_us
      · rw [pk_us]; exact pk_un (by show 4 * b + oo_c (a_orders b) 3 ≠ _; omega)
      · rw [pk_un e2]; exact pk_un e1
    rintro a a' (q | q | q | q)
    · obtain ⟨rfl, rfl⟩ := Prod.mk.inj q; exact key _
    · obtain ⟨rfl, rfl⟩ := Prod.mk.inj q; exact key _
    · obtain ⟨rfl, rfl⟩ := Prod.mk.inj q; exact key _
    · obtain ⟨rfl, rfl⟩ := Prod.mk.inj q; exact key _
theorem xt_ins28 {post : Int32 → SX → Prop} {b s : Nat} (hb : b < 122) (hob : a_orders b ∈ oo_all) (hz : oo_z (a_orders b) < 4) (hG : cc_G a_slices) (hs : s < 81) (h : ∀ k, k ≤ oo_z (a_orders b) → (∀ i, i < k → cc_s a_slices (4 * b + oo_c (a_orders b) i) < s) → (k < oo_z (a_orders b) → s ≤ cc_s a_slices (4 * b + oo_c (a_orders b) k)) → post (nI (4 * b + oo_c (a_orders b) (oo_z (a_orders b)))) (f_top, f_freeCount, f_count, f_listed, f_current, upd a_orders b (oo_ins (a_orders b) k (oo_z (a_orders b))), a_follower, upd a_slices (4 * b + oo_c (a_orders b) (oo_z (a_orders b))) (nI s), upd a_values (4 * b + oo_c (a_orders b) (oo_z (a_orders b))) 0, upd a_held (4 * b + oo_c (a_orders b) (oo_z (a_orders b))) 0, upd a_below (4 * b + oo_c (a_orders b) (oo_z (a_orders b))) (-1), a_freeNodes, a_path, a_wordAt, a_valueAt, a_node, a_spot)) : wX_insert_28 post (nI s) (nI b) f_top f_freeCount f_count f_listed f_current a_orders a_follower a_slices a_values a_held a_below a_freeNodes a_path a_wordAt a_valueAt a_node a_spot := by
  unfold wX_insert_28
  refine cc_lesserIn hb hob hG hs (fun k hk1 hk2 hk3 => ?_)
  refine cc_sizeOfNode hb hob ?_
  have vb : vp_in (nI b) 122 := vp_in_nI hb (by decide)
  have hin := cc_in hb hob (k := oo_z (a_orders b)) hz
  have ve : vp_in (nI (4 * b + oo_c (a_orders b) (oo_z (a_orders b)))) 488 := vp_in_nI hin (by decide)
  have hc := (oo_b _ hob (oo_z (a_orders b)) hz).2
  rw [nI_clamp (n := b) (by omega)]
  refine ⟨vb, nm_r hc ⟨vb, nm_e (nm_e (nm_e (nm_e (nm_e ⟨vb, nm_r (e' := upd a_orders b (oo_ins (a_orders b) k (oo_z (a_orders b)))) ?_ (nm_r (e' := nI (4 * b + oo_c (a_orders b) (oo_z (a_orders b)))) ?_ ?_)⟩))))⟩⟩
  · unfold oo_ins
    rw [hc]
  · rw [xw_4m, nI_add]
  · rw [nI_clamp (n := 4 * b + oo_c (a_orders b) (oo_z (a_orders b))) (by omega), xt_nar (Or.inl rfl)]
    exact ⟨ve, nm_e ⟨ve, nm_e ⟨ve, nm_e ⟨ve, nm_e (h k hk1 hk2 hk3)⟩⟩⟩⟩
end
end
section
/-! insert, find, makePath, put over the tree -/
section
variable {f_top f_freeCount f_count f_listed f_current : Int32} {a_orders a_follower a_slices a_values a_held a_below a_freeNodes a_path a_wordAt a_valueAt a_node a_spot : Nat → Int32}
theorem xt_insert {post : Int32 → SX → Prop} {y p s b0 : Nat} {T : List Nat} {C : Nat → List Nat} {K : List (Nat × Int32)} (I : ti_I p y C K f_top f_freeCount a_orders a_follower a_slices a_values a_held a_below a_freeNodes) (hCp : C p = b0 :: T) (hy : y = 6561 ∨ (y = p ∧ T = [] ∧ oo_z (a_orders b0) = 0)) (hK : K.length ≤ 39) (hs9 : 9 ≤ s) (hs : s < 81) (hno : ∀ e, e ∈ cc_E a_orders (C p) → cc_s a_slices e ≠ s) (h : ∀ (C' : Nat → List Nat) (e : Nat) (fc' : Int32) (o' f' sl' v' h' w' : Nat → Int32), ti_I (81 * p + s) 6561 C' K f_top fc' o' f' sl' v' h' w' a_freeNodes → e ∈ cc_E o' (C' p) → cc_s sl' e = s → post (nI e) (f_top, fc', f_count, f_listed, f_current, o', f', sl', v', h', w', a_freeNodes, a_path, a_wordAt, a_valueAt, a_node, a_spot)) : wpX_insert post (f_top, f_freeCount, f_count, f_listed, f_current, a_orders, a_follower, a_slices, a_values, a_held, a_below, a_freeNodes, a_path, a_wordAt, a_valueAt, a_node, a_spot) (nI b0) (nI s) := by
  have I' := I
  obtain ⟨i1, i2, i3, i4, i5, i6, i7, i8, i9, i10, i11, i12, i13⟩ := I
  have hp : p < 6561 := (i8 p (by rw [hCp]; simp)).1
  have okL : ∀ c ∈ b0 :: T, c < 122 ∧ a_orders c ∈ oo_all := fun c hc => by
    have := i3 p c (by rw [hCp]; exact hc)
    exact ⟨this.1, this.2.1⟩
  have kL := i2 p
  rw [hCp] at kL
  unfold wpX_insert
  dsimp only
  refine cc_nodeFor okL kL i6 hs (fun A b B e g1 g2 => ?_)
  have hC : C p = A ++ b :: B := by rw [hCp, e]
  have hbp : b ∈ C p := by rw [hC]; exact List.mem_append.mpr (Or.inr List.mem_cons_self)
  have hb := i3 p b hbp
  have hz0 : ∀ q c, c ∈ C q → c ≠ b → 1 ≤ oo_z (a_orders c) := by
    intro q c hc hcb
    rcases hy with z | ⟨z1, z2, z3⟩
    · exact (i3 q c hc).2.2 (fun yy => by
        have := (i8 q (fun yy => by rw [yy] at hc; cases hc)).1
        omega)
    · by_cases hq : q = p
      · subst hq
        rw [hCp, z2] at hc hbp
        exact absurd ((List.mem_singleton.mp hc).trans (List.mem_singleton.mp hbp).symm) hcb
      · exact (i3 q c hc).2.2 (by omega)
  have hzA : A ≠ [] → 1 ≤ oo_z (a_orders b) := by
    intro hA
    rcases hy with z | ⟨z1, z2, z3⟩
    · exact hb.2.2 (by omega)
    · exfalso
      rw [z2] at e
      cases A with
      | nil => exact hA rfl
      | cons a A =>
        have := congrArg List.length e
        rw [List.length_append, List.length_cons, List.length_cons, List.length_cons] at this
        simp at this
        omega
  have hnd := i10 p
  rw [hC] at hnd
  have hnb : b ∉ B := (List.nodup_cons.mp (List.nodup_append.mp hnd).2.1).1
  have hp4 := i4 p
  rw [hC] at hp4
  obtain ⟨sA, sB⟩ := cc_sep hp4 (fun c hc => hz0 p c (by rw [hC]; exact hc)) hzA hnb g1 g2
  refine cc_sizeOfNode hb.1 hb.2.1 ?_
  have z4 := (oo_a _ hb.2.1).1
  refine pk_eq (oo_z (a_orders b)) 4 (fun hz4 => ?_) (fun hz4 => ?_)
  · have hy6 : y = 6561 := by
      rcases hy with z | ⟨z1, z2, z3⟩
      · exact z
      · exfalso
        rw [hCp, z2] at hbp
        rw [List.mem_singleton.mp hbp] at hz4
        omega
    subst hy6
    obtain ⟨n, c, e1, e2, e3, e4, e5, e6⟩ := ti_pop i11 (ti_room I' hK)
    have hbc : b ≠ c := fun z => e5 p (z ▸ hbp)
    refine xt_split e1 e2 e3 e4 hb.1 hbc hb.2.1 i7 (fun o' f' sl' v' h' w' ho1 ho2 ho3 hf1 hf2 hf3 hm => ?_)
    have hF := e6 (ti_u C p (A ++ b :: c :: B)) (fun d => by
      constructor
      · rintro ⟨q, hq⟩
        by_cases z : q = p
        · rw [z, ti_us] at hq
          by_cases zc : d = c
          · exact Or.inl zc
          · refine Or.inr ⟨p, ?_⟩
            rw [hC]
            rcases List.mem_append.mp hq with y | y
            · exact List.mem_append.mpr (Or.inl y)
            · rcases List.mem_cons.mp y with y | y
              · exact List.mem_append.mpr (Or.inr (by rw [y]; exact List.mem_cons_self))
              · rcases List.mem_cons.mp y with y | y
                · exact absurd y zc
                · exact List.mem_append.mpr (Or.inr (List.mem_cons_of_mem _ y))
        · rw [ti_un z] at hq
          exact Or.inr ⟨q, hq⟩
      · rintro (z | ⟨q, hq⟩)
        · exact ⟨p, by rw [ti_us, z]; exact List.mem_append.mpr (Or.inr (List.mem_cons_of_mem _ List.mem_cons_self))⟩
        · by_cases z : q = p
          · refine ⟨p, ?_⟩
            rw [z, hC] at hq
            rw [ti_us]
            rcases List.mem_append.mp hq with y | y
            · exact List.mem_append.mpr (Or.inl y)
            · rcases List.mem_cons.mp y with y | y
              · exact List.mem_append.mpr (Or.inr (by rw [y]; exact List.mem_cons_self))
              · exact List.mem_append.mpr (Or.inr (List.mem_cons_of_mem _ (List.mem_cons_of_mem _ y)))
          · exact ⟨q, by rw [ti_un z]; exact hq⟩)
    obtain ⟨I2, hno2⟩ := ti_split I' hC hz4 e3 e5 hF ho1 ho2 ho3 hf1 hf2 hf3 hm
    have hno3 := hno2 p s hno
    have J2 := I2
    obtain ⟨j1, j2, j3, j4, j5, j6, j7, j8, j9, j10, j11, j12, j13⟩ := J2
    have kp := j2 p
    rw [ti_us] at kp
    dsimp only
    refine cc_nodeFor (b := b) (T := c :: B) (fun d hd => ?_) (cc_ksuf kp) j6 hs (fun A' d B' e' g1' g2' => ?_)
    · have := j3 p d (by rw [ti_us]; exact List.mem_append.mpr (Or.inr hd))
      exact ⟨this.1, this.2.1⟩
    have hC3 : ti_u C p (A ++ b :: c :: B) p = (A ++ A') ++ d :: B' := by rw [ti_us, List.append_assoc, ← e']
    have hdp : d ∈ ti_u C p (A ++ b :: c :: B) p := by rw [hC3]; exact List.mem_append.mpr (Or.inr List.mem_cons_self)
    have hd := j3 p d hdp
    have hzd : ∀ q c', c' ∈ ti_u C p (A ++ b :: c :: B) q → 1 ≤ oo_z (o' c') := fun q c' hc' => (j3 q c' hc').2.2 (fun yy => by
      have := (j8 q (fun yy => by rw [yy] at hc'; cases hc')).1
      omega)
    have hnd3 := j10 p
    rw [hC3] at hnd3
    have hnb3 : d ∉ B' := (List.nodup_cons.mp (List.nodup_append.mp hnd3).2.1).1
    have hp43 := j4 p
    rw [hC3] at hp43
    obtain ⟨ms1, ms2, ms3⟩ := hm a_slices sl' (Or.inl rfl)
    have bfst : cc_s sl' (4 * b + oo_c (o' b) 0) = cc_s a_slices (4 * b + oo_c (a_orders b) 0) := by
      have := (oo_b _ hb.2.1 0 (by decide)).1
      unfold cc_s
      rw [ho2, oo_s0 _ hb.2.1 hz4, ms3 _ (by omega) (by omega)]
    have g1'' : A ++ A' ≠ [] → cc_s sl' (4 * d + oo_c (o' d) 0) ≤ s := by
      intro hAA
      cases A' with
      | nil =>
        have hd2 : b = d := (List.cons.inj e').1
        rw [← hd2, bfst]
        exact g1 (fun z => hAA (by rw [z]; rfl))
      | cons a A' => exact g1' (by simp)
    obtain ⟨sA3, sB3⟩ := cc_sep hp43 (fun c' hc' _ => hzd p c' (by rw [hC3]; exact hc')) (fun _ => hzd p d hdp) hnb3 g1'' g2'
    have hz3 : oo_z (o' d) < 4 := by
      by_cases zb : d = b
      · rw [zb, ho2, (oo_s _ hb.2.1 hz4).2.1]; decide
      · by_cases zc : d = c
        · rw [zc, ho1, oo_2.2.1]; decide
        · exfalso
          have hdB : d ∈ B := by
            have : d ∈ b :: c :: B := by rw [e']; exact List.mem_append.mpr (Or.inr List.mem_cons_self)
            rcases List.mem_cons.mp this with q | q
            · exact absurd q zb
            · rcases List.mem_cons.mp q with q | q
              · exact absurd q zc
              · exact q
          have hA' : A' ≠ [] := fun z => by
            rw [z] at e'
            exact zb (List.cons.inj e').1.symm
          have q1 := g1' hA'
          have q2 := hzd p d hdp
          rw [ho3 d zb zc] at q1 q2
          have q3 := sB (4 * d + oo_c (a_orders d) 0) (cc_mE.mpr ⟨d, hdB, cc_s0 q2⟩)
          have hdo := i3 p d (by rw [hC]; exact List.mem_append.mpr (Or.inr (List.mem_cons_of_mem _ hdB)))
          have := (oo_b _ hdo.2.1 0 (by decide)).1
          unfold cc_s at q1 q3
          rw [ms3 _ (by omega) (by omega)] at q1
          omega
    refine xt_ins28 hd.1 hd.2.1 hz3 j6 hs (fun k hk1 hk2 hk3 => ?_)
    have hpd : (cc_e o' d).Pairwise (fun a c => cc_s sl' a < cc_s sl' c) := by
      rw [cc_Ea, cc_Ec] at hp43
      exact (List.pairwise_append.mp (List.pairwise_append.mp hp43).2.1).1
    obtain ⟨I3, m1, _⟩ := ti_ins I2 hC3 hz3 hk1 sA3 sB3 hk2 (fun i hi hj => by
      have q0 : cc_s sl' (4 * d + oo_c (o' d) i) ≠ s := hno3 _ (cc_mE.mpr ⟨d, hdp, cc_me.mpr ⟨i, hj, rfl⟩⟩)
      have q1 := hk3 (by omega)
      rcases Nat.lt_or_ge k i with q | q
      · have := cc_inc hpd q hj
        omega
      · have : i = k := by omega
        rw [this] at q0 ⊢
        omega) hs9 hs (fun q c' hc' _ => hzd q c' hc') (fun _ _ _ _ => Or.inr (by rw [hC3]; simp))
    exact h _ _ _ _ _ _ _ _ _ I3 m1 (cc_su (by omega))
  · refine xt_ins28 hb.1 hb.2.1 (by omega) i6 hs (fun k hk1 hk2 hk3 => ?_)
    have hpb : (cc_e a_orders b).Pairwise (fun a c => cc_s a_slices a < cc_s a_slices c) := by
      rw [cc_Ea, cc_Ec] at hp4
      exact (List.pairwise_append.mp (List.pairwise_append.mp hp4).2.1).1
    obtain ⟨I3, m1, _⟩ := ti_ins I' hC (by omega) hk1 sA sB hk2 (fun i hi hj => by
      have q0 : cc_s a_slices (4 * b + oo_c (a_orders b) i) ≠ s := hno _ (cc_mE.mpr ⟨b, hbp, cc_me.mpr ⟨i, hj, rfl⟩⟩)
      have q1 := hk3 (by omega)
      rcases Nat.lt_or_ge k i with q | q
      · have := cc_inc hpb q hj
        omega
      · have : i = k := by omega
        rw [this] at q0 ⊢
        omega) hs9 hs hz0 (fun _ _ _ _ => Or.inr (by rw [hCp]; simp))
    exact h _ _ _ _ _ _ _ _ _ I3 m1 (cc_su (by omega))
end
/-- the entry of a path -/
def xt_at (o sl : Nat → Int32) (C : Nat → List Nat) (q e : Nat) : Prop := e ∈ cc_E o (C (q / 81)) ∧ cc_s sl e = q % 81
theorem ww_ptd (n j : Nat) : ww_pt n (j + 1) / 81 = ww_pt n j ∧ ww_pt n (j + 1) % 81 = ww_s n j := by
  have := ww_s81 n j
  show (81 * ww_pt n j + ww_s n j) / 81 = _ ∧ (81 * ww_pt n j + ww_s n j) % 81 = _
  omega
theorem ww_ptl {n j : Nat} (hj : j < 3) : ww_pt n j < 6561 := by
  have a0 := ww_s81 n 0
  have a1 := ww_s81 n 1
  have : j = 0 ∨ j = 1 ∨ j = 2 := by omega
  rcases this with rfl | rfl | rfl
  · show 0 < _; decide
  · rw [ww_pt1]; omega
  · rw [ww_pt2]; omega
theorem ww_pt9 {n j : Nat} (hj : j < ww_l n) : ww_pt n (j + 1) ≠ 0 := by
  have := ww_sb hj
  show 81 * ww_pt n j + ww_s n j ≠ 0
  omega
section
variable {x y : Nat} {C : Nat → List Nat} {K : List (Nat × Int32)} {top fc : Int32} {o f sl v h w fr : Nat → Int32}
theorem ti_at488 (I : ti_I x y C K top fc o f sl v h w fr) {q e : Nat} (he : xt_at o sl C q e) : e < 488 := (ti_E4 I he.1).2.2
theorem ti_atw (I : ti_I x y C K top fc o f sl v h w fr) {q e : Nat} (he : xt_at o sl C q e) : w e = cc_h (C q) := by
  have := (I.2.2.2.2.1 _ e he.1).2.1
  rw [he.2] at this
  have e2 : 81 * (q / 81) + q % 81 = q := by omega
  rw [e2] at this
  exact this
/-- above every entry of a word's path there is one -/
theorem ti_anc (I : ti_I x y C K top fc o f sl v h w fr) {n j : Nat} : ∀ d, j + d < ww_l n → (∃ e, xt_at o sl C (ww_pt n (j + d + 1)) e) → ∃ e, xt_at o sl C (ww_pt n (j + 1)) e := by
  intro d
  induction d with
  | zero => intro _ h; exact h
  | succ d ih =>
    intro hl h
    refine ih (by omega) ?_
    obtain ⟨e, he, hs⟩ := h
    have i8 := I.2.2.2.2.2.2.2.1
    rw [(ww_ptd n (j + (d + 1))).1] at he
    have hne : C (ww_pt n (j + d + 1)) ≠ [] := fun z => by
      have : C (ww_pt n (j + (d + 1))) = [] := z
      rw [this] at he
      cases he
    rcases (i8 _ hne).2 with z | z
    · exact absurd z (ww_pt9 (by omega))
    · exact z
end
section
variable {f_top f_freeCount f_count f_listed f_current : Int32} {a_orders a_follower a_slices a_values a_held a_below a_freeNodes a_path a_wordAt a_valueAt a_node a_spot : Nat → Int32}
theorem xt_ef {post : Int32 → Prop} {x : Nat} {C : Nat → List Nat} {K : List (Nat × Int32)} (I : ti_I x 6561 C K f_top f_freeCount a_orders a_follower a_slices a_values a_held a_below a_freeNodes) {n j : Nat} (hj : j < ww_l n) (h1 : ∀ e, xt_at a_orders a_slices C (ww_pt n (j + 1)) e → post (nI e)) (h0 : (∀ e, ¬ xt_at a_orders a_slices C (ww_pt n (j + 1)) e) → post (-1)) : wpX_entryFor post (f_top, f_freeCount, f_count, f_listed, f_current, a_orders, a_follower, a_slices, a_values, a_held, a_below, a_freeNodes, a_path, a_wordAt, a_valueAt, a_node, a_spot) (cc_h (C (ww_pt n j))) (nI (ww_s n j)) := by
  have I' := I
  obtain ⟨i1, i2, i3, i4, i5, i6, i7, i8, i9, i10, i11, i12, i13⟩ := I
  obtain ⟨d1, d2⟩ := ww_ptd n j
  refine cc_entryFor (fun c hc => ?_) (i2 _) (i10 _) i6 (i4 _) (ww_sb hj).2 (fun e he hs => h1 e ⟨by rw [d1]; exact he, by rw [d2]; exact hs⟩) (fun q => h0 (fun e z => ?_))
  · have a := i3 _ c hc
    refine ⟨a.1, a.2.1, a.2.2 (fun yy => ?_)⟩
    have := (i8 _ (fun yy => by rw [yy] at hc; cases hc)).1
    omega
  · obtain ⟨z1, z2⟩ := z
    rw [d1] at z1
    rw [d2] at z2
    exact q e z1 z2
theorem xt_find16 {post : Int32 → Prop} {C : Nat → List Nat} {K : List (Nat × Int32)} {x : Nat} (I : ti_I x 6561 C K f_top f_freeCount a_orders a_follower a_slices a_values a_held a_below a_freeNodes) {n : Nat} (hn : ww_w n) (h1 : ∀ e, xt_at a_orders a_slices C (ww_p n) e → post (nI e)) (h0 : (∀ e, ¬ xt_at a_orders a_slices C (ww_p n) e) → post (-1)) : ∀ (d j : Nat) (x2 x3 : Int32), j + d = ww_l n → x2 = cc_h (C (ww_pt n j)) → (j = 0 ∨ ∃ e, x3 = nI e ∧ xt_at a_orders a_slices C (ww_pt n j) e) → wX_find_16 post (nI n) (nI (ww_l n)) f_top f_freeCount f_count f_listed f_current a_orders a_follower a_slices a_values a_held a_below a_freeNodes a_path a_wordAt a_valueAt a_node a_spot (d + 1) x2 x3 (nI j) := by
  have l3 := ww_l3 hn
  intro d
  induction d with
  | zero =>
    intro j x2 x3 hj hx2 hx
    have ej : j = ww_l n := by omega
    subst ej
    rcases hx with z | ⟨e, e1, e2⟩
    · omega
    · rw [e1]
      exact br_t (nI_le (Nat.le_refl _) (by omega)) (h1 e e2)
  | succ d ih =>
    intro j x2 x3 hj hx2 hx
    rw [wX_find_16, hx2]
    refine br_f (nI_ge (by omega) (by omega)) ?_
    refine xw_sliceOf hn (by omega) ?_
    refine xt_ef I (by omega) (fun e he => ?_) (fun q => ?_)
    · have l4 := ti_at488 I he
      refine br_f (fun q => ?_) ⟨vp_in_nI l4 (by decide), ?_⟩
      · have := nI_pos (n := e) (by omega)
        rw [q] at this
        exact absurd (by decide) this
      · rw [nI_clamp (n := e) (by omega)]
        exact nm_r (ti_atw I he) (nm_r (nI_1 j) (ih (j + 1) _ (nI e) (by omega) rfl (Or.inr ⟨e, rfl, he⟩)))
    · refine br_t rfl (h0 (fun e he => ?_))
      have e2 : ww_p n = ww_pt n (j + d + 1) := by unfold ww_p; congr 1; omega
      rw [e2] at he
      obtain ⟨e3, he3⟩ := ti_anc I d (by omega) ⟨e, he⟩
      exact q e3 he3
theorem xt_find {post : Int32 → Prop} {C : Nat → List Nat} {K : List (Nat × Int32)} {x : Nat} (I : ti_I x 6561 C K f_top f_freeCount a_orders a_follower a_slices a_values a_held a_below a_freeNodes) {n : Nat} (hn : ww_w n) (h1 : ∀ e, xt_at a_orders a_slices C (ww_p n) e → post (nI e)) (h0 : (∀ e, ¬ xt_at a_orders a_slices C (ww_p n) e) → post (-1)) : wpX_find post (f_top, f_freeCount, f_count, f_listed, f_current, a_orders, a_follower, a_slices, a_values, a_held, a_below, a_freeNodes, a_path, a_wordAt, a_valueAt, a_node, a_spot) (nI n) := by
  have ln := ww_lt hn.1
  unfold wpX_find
  dsimp only
  refine xw_layersOf (by omega) ⟨ww_l n + 1, ?_⟩
  exact xt_find16 I hn h1 h0 (ww_l n) 0 f_top (-1) (by omega) I.1 (Or.inl rfl)
end
end
section
/-! makePath and put -/
theorem xt_n1 {e : Nat} (h : e < 2 ^ 31) : ¬ nI e = -1 := fun q => by
  have := nI_pos (n := e) h
  rw [q] at this
  exact absurd (by decide) this
section
variable {f_top f_freeCount f_count f_listed f_current : Int32} {a_orders a_follower a_slices a_values a_held a_below a_freeNodes a_path a_wordAt a_valueAt a_node a_spot : Nat → Int32}
theorem xt_mp10 {post : Int32 → SX → Prop} {n : Nat} {K : List (Nat × Int32)} (hn : ww_w n) (hK : K.length ≤ 39) (h : ∀ (C : Nat → List Nat) (e : Nat) (f_top f_freeCount : Int32) (a_orders a_follower a_slices a_values a_held a_below : Nat → Int32), ti_I (ww_p n) 6561 C K f_top f_freeCount a_orders a_follower a_slices a_values a_held a_below a_freeNodes → xt_at a_orders a_slices C (ww_p n) e → post (nI e) (f_top, f_freeCount, f_count, f_listed, f_current, a_orders, a_follower, a_slices, a_values, a_held, a_below, a_freeNodes, a_path, a_wordAt, a_valueAt, a_node, a_spot)) : ∀ (d j : Nat) (x2 : Int32) (C : Nat → List Nat) (f_top f_freeCount : Int32) (a_orders a_follower a_slices a_values a_held a_below : Nat → Int32), j + d = ww_l n → ti_I (ww_pt n j) 6561 C K f_top f_freeCount a_orders a_follower a_slices a_values a_held a_below a_freeNodes → ((j = 0 ∧ x2 = -1) ∨ ∃ e, x2 = nI e ∧ xt_at a_orders a_slices C (ww_pt n j) e) → wX_makePath_10 post (nI n) (nI (ww_l n)) (d + 1) x2 (nI j) f_top f_freeCount f_count f_listed f_current a_orders a_follower a_slices a_values a_held a_below a_freeNodes a_path a_wordAt a_valueAt a_node a_spot := by
  have l3 := ww_l3 hn
  intro d
  induction d with
  | zero =>
    intro j x2 C f_top f_freeCount a_orders a_follower a_slices a_values a_held a_below hj I hx
    have ej : j = ww_l n := by omega
    subst ej
    rcases hx with ⟨z, _⟩ | ⟨e, e1, e2⟩
    · omega
    · rw [e1]
      exact br_t (nI_le (Nat.le_refl _) (by omega)) (h C e _ _ _ _ _ _ _ _ I e2)
  | succ d ih =>
    intro j x2 C f_top f_freeCount a_orders a_follower a_slices a_values a_held a_below hj I hx
    have sb := ww_sb (n := n) (j := j) (by omega)
    obtain ⟨d1, d2⟩ := ww_ptd n j
    have K79 : ∀ (C1 : Nat → List Nat) (y b0 : Nat) (T : List Nat) (f_top f_freeCount : Int32) (a_orders a_follower a_slices a_values a_held a_below : Nat → Int32), ti_I (ww_pt n j) y C1 K f_top f_freeCount a_orders a_follower a_slices a_values a_held a_below a_freeNodes → C1 (ww_pt n j) = b0 :: T → (y = 6561 ∨ (y = ww_pt n j ∧ T = [] ∧ oo_z (a_orders b0) = 0)) → (∀ e, e ∈ cc_E a_orders (C1 (ww_pt n j)) → cc_s a_slices e ≠ ww_s n j) → wX_makePath_79 post (wX_makePath_10 post (nI n) (nI (ww_l n)) (d + 1)) (nI n) (nI (ww_l n)) (nI j) (nI (ww_s n j)) (nI b0) f_top f_freeCount f_count f_listed f_current a_orders a_follower a_slices a_values a_held a_below a_freeNodes a_path a_wordAt a_valueAt a_node a_spot := by
      intro C1 y b0 T f_top f_freeCount a_orders a_follower a_slices a_values a_held a_below I1 hC1 hy hno
      unfold wX_makePath_79
      refine xt_insert I1 hC1 hy hK sb.1 sb.2 hno (fun C' e fc' o' f' sl' v' h' w' I2 m1 m2 => ?_)
      dsimp only
      exact nm_r (nI_1 j) (ih (j + 1) (nI e) C' _ _ _ _ _ _ _ _ (by omega) I2 (Or.inr ⟨e, rfl, by rw [d1]; exact m1, by rw [d2]; exact m2⟩))
    have K42 : ∀ z0, z0 = cc_h (C (ww_pt n j)) → wX_makePath_42 post (wX_makePath_10 post (nI n) (nI (ww_l n)) (d + 1)) (nI n) x2 (nI (ww_l n)) (nI j) (nI (ww_s n j)) z0 f_top f_freeCount f_count f_listed f_current a_orders a_follower a_slices a_values a_held a_below a_freeNodes a_path a_wordAt a_valueAt a_node a_spot := by
      intro z0 ez
      rw [ez]
      unfold wX_makePath_42
      refine xt_ef I (by omega) (fun e he => ?_) (fun q => ?_)
      · have l4 := ti_at488 I he
        refine br_f (xt_n1 (by omega)) (nm_r (nI_1 j) (ih (j + 1) (nI e) C _ _ _ _ _ _ _ _ (by omega) (ti_wk0 I _ (fun z => ?_)) (Or.inr ⟨e, rfl, he⟩)))
        have he1 := he.1
        rw [d1, z] at he1
        cases he1
      · have hno : ∀ e, e ∈ cc_E a_orders (C (ww_pt n j)) → cc_s a_slices e ≠ ww_s n j := fun e he hs => q e ⟨by rw [d1]; exact he, by rw [d2]; exact hs⟩
        refine br_t rfl ?_
        cases hc : C (ww_pt n j) with
        | nil =>
          refine br_t rfl ?_
          have i11 := I.2.2.2.2.2.2.2.2.2.2.1
          obtain ⟨m, c, e1, e2, e3, e4, e5, e6⟩ := ti_pop i11 (ti_room I hK)
          refine xt_take e1 e2 e3 e4 ?_
          dsimp only
          have hF := e6 (ti_u C (ww_pt n j) [c]) (fun b => by
            constructor
            · rintro ⟨r, hr⟩
              by_cases z : r = ww_pt n j
              · rw [z, ti_us] at hr
                exact Or.inl (List.mem_singleton.mp hr)
              · rw [ti_un z] at hr
                exact Or.inr ⟨r, hr⟩
            · rintro (z | ⟨r, hr⟩)
              · exact ⟨ww_pt n j, by rw [ti_us, z]; exact List.mem_singleton.mpr rfl⟩
              · refine ⟨r, ?_⟩
                by_cases z : r = ww_pt n j
                · rw [z, hc] at hr
                  cases hr
                · rw [ti_un z]; exact hr)
          have hz : oo_z (upd a_orders c 205056 c) = 0 := by rw [pk_us]; exact oo_0.2.1
          rcases hx with ⟨j0, x0⟩ | ⟨e, ex, he⟩
          · rw [x0]
            refine xt_set0 ?_
            dsimp only
            have p0 : ww_pt n j = 0 := by rw [j0]; rfl
            obtain ⟨I1, eE⟩ := ti_new (top' := nI c) (w' := a_below) I hc (ww_ptl (by omega)) (Or.inl p0) e3 e5 hF (by rw [if_pos p0]) (fun r e he => by
              rw [if_neg]
              have := (I.2.2.2.2.1 r e he).1
              omega)
            exact K79 _ _ c [] _ _ _ _ _ _ _ _ I1 ti_us (Or.inr ⟨rfl, rfl, hz⟩) (fun e he => hno e (by rw [eE] at he; exact he))
          · rw [ex]
            have l4 := ti_at488 I he
            refine xt_set1 l4 ?_
            dsimp only
            have pne : ww_pt n j ≠ 0 := fun z => by
              have h9 := (I.2.2.2.2.1 _ e he.1).1
              have h0 := he.2
              rw [z] at h0
              omega
            obtain ⟨I1, eE⟩ := ti_new (top' := f_top) (w' := upd a_below e (nI c)) I hc (ww_ptl (by omega)) (Or.inr ⟨e, he.1, he.2⟩) e3 e5 hF (by rw [if_neg pne]) (fun r e' he' => by
              by_cases z : e' = e
              · subst z
                have := ti_pq I he' he.1
                have h0 := he.2
                rw [pk_us, if_pos (by omega)]
              · rw [pk_un z, if_neg]
                intro q2
                have h0 := he.2
                exact z (ti_uq I he' he.1 (by omega)))
            exact K79 _ _ c [] _ _ _ _ _ _ _ _ I1 ti_us (Or.inr ⟨rfl, rfl, hz⟩) (fun e he => hno e (by rw [eE] at he; exact he))
        | cons b0 T =>
          have hb0 := (I.2.2.1 (ww_pt n j) b0 (by rw [hc]; exact List.mem_cons_self)).1
          exact br_f (xt_n1 (by omega)) (K79 C 6561 b0 T _ _ _ _ _ _ _ _ I hc (Or.inl rfl) hno)
    rw [wX_makePath_10]
    refine br_f (nI_ge (by omega) (by omega)) ?_
    refine xw_sliceOf hn (by omega) ?_
    have hx' := hx
    rcases hx with ⟨j0, x0⟩ | ⟨e, ex, he⟩
    · refine br_t x0 (K42 _ ?_)
      rw [j0]
      exact I.1
    · have l4 := ti_at488 I he
      refine br_f (by rw [ex]; exact xt_n1 (by omega)) ⟨by rw [ex]; exact vp_in_nI l4 (by decide), K42 _ ?_⟩
      rw [ex, nI_clamp (by omega)]
      exact ti_atw I he
theorem xt_makePath {post : Int32 → SX → Prop} {n : Nat} {K : List (Nat × Int32)} {C : Nat → List Nat} (hn : ww_w n) (hK : K.length ≤ 39) (I : ti_I 0 6561 C K f_top f_freeCount a_orders a_follower a_slices a_values a_held a_below a_freeNodes) (h : ∀ (C : Nat → List Nat) (e : Nat) (f_top f_freeCount : Int32) (a_orders a_follower a_slices a_values a_held a_below : Nat → Int32), ti_I (ww_p n) 6561 C K f_top f_freeCount a_orders a_follower a_slices a_values a_held a_below a_freeNodes → xt_at a_orders a_slices C (ww_p n) e → post (nI e) (f_top, f_freeCount, f_count, f_listed, f_current, a_orders, a_follower, a_slices, a_values, a_held, a_below, a_freeNodes, a_path, a_wordAt, a_valueAt, a_node, a_spot)) : wpX_makePath post (f_top, f_freeCount, f_count, f_listed, f_current, a_orders, a_follower, a_slices, a_values, a_held, a_below, a_freeNodes, a_path, a_wordAt, a_valueAt, a_node, a_spot) (nI n) := by
  have ln := ww_lt hn.1
  unfold wpX_makePath
  dsimp only
  refine xw_layersOf (by omega) ⟨ww_l n + 1, ?_⟩
  exact xt_mp10 hn hK h (ww_l n) 0 (-1) C _ _ _ _ _ _ _ _ (by omega) I (Or.inl ⟨rfl, rfl⟩)
end
/-- the component's side of the relation -/
def xx_R (K : List (Nat × Int32)) (u : SX) : Prop := match u with
  | (f_top, f_freeCount, f_count, f_listed, f_current, a_orders, a_follower, a_slices, a_values, a_held, a_below, a_freeNodes, a_path, a_wordAt, a_valueAt, a_node, a_spot) => kk_S K ∧ f_count = nI K.length ∧ (f_current = 0 ∨ (f_listed = nI K.length ∧ kk_H a_wordAt a_valueAt K)) ∧ ∃ C, ti_I 0 6561 C K f_top f_freeCount a_orders a_follower a_slices a_values a_held a_below a_freeNodes
section
variable {f_top f_freeCount f_count f_listed f_current : Int32} {a_orders a_follower a_slices a_values a_held a_below a_freeNodes a_path a_wordAt a_valueAt a_node a_spot : Nat → Int32}
theorem xx_put42 {post : Int32 → SX → Prop} {n : Nat} {x : Int32} {K : List (Nat × Int32)} (hR : xx_R K (f_top, f_freeCount, f_count, f_listed, f_current, a_orders, a_follower, a_slices, a_values, a_held, a_below, a_freeNodes, a_path, a_wordAt, a_valueAt, a_node, a_spot)) (hn : ww_w n) (ha : ∀ y, (n, y) ∉ K) (hf : K.length = 40 → post (-2) (f_top, f_freeCount, f_count, f_listed, f_current, a_orders, a_follower, a_slices, a_values, a_held, a_below, a_freeNodes, a_path, a_wordAt, a_valueAt, a_node, a_spot)) (hi : K.length < 40 → ∀ u', xx_R (kk_ins K n x) u' → post 1 u') : wX_put_42 post (nI n) x f_top f_freeCount f_count f_listed f_current a_orders a_follower a_slices a_values a_held a_below a_freeNodes a_path a_wordAt a_valueAt a_node a_spot := by
  obtain ⟨hS, hc, hl, C, I⟩ := hR
  have h40 := hS.2.2
  unfold wX_put_42
  refine pk_eq K.length 40 hf (fun q => ?_) (hx := hc)
  refine xt_makePath hn (by omega) I (fun C' e f_top' f_freeCount' a_orders' a_follower' a_slices' a_values' a_held' a_below' I' he => ?_)
  dsimp only
  have l4 := ti_at488 I' he
  have ve : vp_in (nI e) 488 := vp_in_nI l4 (by decide)
  rw [nI_clamp (n := e) (by omega), xt_nar (Or.inr rfl)]
  refine ⟨ve, nm_e ⟨ve, nm_e (nm_e (hi (by omega) _ ?_))⟩⟩
  have p := kk_ins_perm (x := x) hS hn ha
  refine ⟨kk_ins_S hS hn ha (by omega), by rw [hc, nI_1, p.length_eq, List.length_cons], Or.inl rfl, C', ?_⟩
  refine ti_hold hn (e := e) (p := ww_p n / 81) ?_ I' he.1 hS.1 (fun a => ?_) pk_us (fun e' z => pk_un z)
  · have := he.2
    omega
  · rw [p.mem_iff, List.mem_cons]
    constructor
    · rintro (z | z)
      · exact Or.inr z
      · exact Or.inl ⟨z, fun q => ha a.2 (by rw [← q]; exact z)⟩
    · rintro (z | z)
      · exact Or.inr z.1
      · exact Or.inl z
/-- what find's answer says of K -/
theorem xx_in {K : List (Nat × Int32)} {C : Nat → List Nat} {x y : Nat} (I : ti_I x y C K f_top f_freeCount a_orders a_follower a_slices a_values a_held a_below a_freeNodes) (hK : ∀ a, a ∈ K → ww_w a.1) {n e : Nat} (hn : ww_w n) (he : xt_at a_orders a_slices C (ww_p n) e) : (a_held e = 0 ∧ ∀ y, (n, y) ∉ K) ∨ (a_held e = 1 ∧ (n, a_values e) ∈ K) := by
  have I' := I
  obtain ⟨i1, i2, i3, i4, i5, i6, i7, i8, i9, i10, i11, i12, i13⟩ := I
  rcases i7 e with z | z
  · refine Or.inl ⟨z, fun y hy => ?_⟩
    obtain ⟨e', he', a1, a2, a3⟩ := i12 _ hy
    have a1 : cc_s a_slices e' = ww_p n % 81 := a1
    have he' : e' ∈ cc_E a_orders (C (ww_p n / 81)) := he'
    have q : e' = e := ti_uq I' he' he.1 (by have := he.2; omega)
    rw [q, z] at a2
    exact absurd a2 (by decide)
  · refine Or.inr ⟨z, ?_⟩
    obtain ⟨a, a1, a2, a3⟩ := i13 _ e he.1 z
    have h0 := he.2
    have q : a.1 = n := ww_pinj (hK a a1) hn (by omega)
    rw [a3, ← q]
    exact a1
theorem xx_out {K : List (Nat × Int32)} {C : Nat → List Nat} {x y : Nat} (I : ti_I x y C K f_top f_freeCount a_orders a_follower a_slices a_values a_held a_below a_freeNodes) {n : Nat} (he : ∀ e, ¬ xt_at a_orders a_slices C (ww_p n) e) : ∀ y, (n, y) ∉ K := by
  obtain ⟨i1, i2, i3, i4, i5, i6, i7, i8, i9, i10, i11, i12, i13⟩ := I
  intro y hy
  obtain ⟨e', he', a1, a2, a3⟩ := i12 _ hy
  exact he e' ⟨he', a1⟩
end
theorem xx_put {post : Int32 → SX → Prop} {K : List (Nat × Int32)} {u : SX} {r x : Int32} (hR : xx_R K u)
    (hb : ¬ ww_w r.toNatClampNeg → post (-1) u)
    (ho : ww_w r.toNatClampNeg → (∃ y, (r.toNatClampNeg, y) ∈ K) → ∀ u', xx_R (kk_set K r.toNatClampNeg x) u' → post 0 u')
    (hf : ww_w r.toNatClampNeg → (∀ y, (r.toNatClampNeg, y) ∉ K) → K.length = 40 → post (-2) u)
    (hi : ww_w r.toNatClampNeg → (∀ y, (r.toNatClampNeg, y) ∉ K) → K.length < 40 → ∀ u', xx_R (kk_ins K r.toNatClampNeg x) u' → post 1 u') : wpX_put post u r x := by
  obtain ⟨f_top, f_freeCount, f_count, f_listed, f_current, a_orders, a_follower, a_slices, a_values, a_held, a_below, a_freeNodes, a_path, a_wordAt, a_valueAt, a_node, a_spot⟩ := u
  have hR' := hR
  obtain ⟨hS, hc, hl, C, I⟩ := hR
  unfold wpX_put
  dsimp only
  refine xw_isWord r (fun w => ?_) (fun w => br_t rfl (hb w))
  refine br_f (by decide) ?_
  have er := yy_wi w
  generalize r.toNatClampNeg = n at *
  subst er
  refine xt_find I w (fun e he => ?_) (fun q => ?_)
  · have l4 := ti_at488 I he
    have ve : vp_in (nI e) 488 := vp_in_nI l4 (by decide)
    rw [nI_clamp (n := e) (by omega)]
    refine br_f (nI_pos (by omega)) ⟨ve, ?_⟩
    rcases xx_in I hS.1 w he with ⟨z1, z2⟩ | ⟨z1, z2⟩
    · exact br_t z1 (xx_put42 hR' w z2 (hf w z2) (hi w z2))
    · refine br_f (by rw [z1]; decide) ⟨ve, nm_e (ho w ⟨_, z2⟩ _ ?_)⟩
      refine ⟨kk_set_S hS, by rw [kk_set_len]; exact hc, Or.inl rfl, C, ?_⟩
      refine ti_hold w (e := e) (p := ww_p n / 81) ?_ (ti_w0 I _) he.1 hS.1 (fun a => kk_set_mem ⟨_, z2⟩) z1 (fun e' _ => rfl)
      have := he.2
      omega
  · have z2 := xx_out I q
    exact br_t (by decide) (xx_put42 hR' w z2 (hf w z2) (hi w z2))
end
section
/-! unlink, dropEntry, takeOut -/
theorem cc_kdel {f : Nat → Int32} {a b : Nat} : ∀ {A B : List Nat}, (A ++ a :: b :: B).Nodup → cc_k f (A ++ a :: b :: B) → cc_k (upd f a (f b)) (A ++ a :: B) := by
  intro A
  induction A with
  | nil =>
    intro B hn hk
    have na := (List.nodup_cons.mp hn).1
    exact ⟨by rw [pk_us]; exact hk.2.1, cc_kg (fun d hd => pk_un (fun z => na (List.mem_cons_of_mem _ (z ▸ hd)))) hk.2.2⟩
  | cons c A ih =>
    intro B hn hk
    obtain ⟨nc, nn⟩ := List.nodup_cons.mp hn
    have ca : c ≠ a := fun z => nc (by rw [z]; exact List.mem_append.mpr (Or.inr List.mem_cons_self))
    exact ⟨by rw [pk_un ca, hk.1]; exact cc_hA, ih nn hk.2⟩
section
variable {f_top f_freeCount f_count f_listed f_current : Int32} {a_orders a_follower a_slices a_values a_held a_below a_freeNodes a_path a_wordAt a_valueAt a_node a_spot : Nat → Int32}
theorem xt_give {post : SX → Prop} {n b : Nat} (hfc : f_freeCount = nI n) (hn : n < 122) (h : post (f_top, nI (n + 1), f_count, f_listed, f_current, a_orders, a_follower, a_slices, a_values, a_held, a_below, upd a_freeNodes n (nI b), a_path, a_wordAt, a_valueAt, a_node, a_spot)) : wpX_giveNode post (f_top, f_freeCount, f_count, f_listed, f_current, a_orders, a_follower, a_slices, a_values, a_held, a_below, a_freeNodes, a_path, a_wordAt, a_valueAt, a_node, a_spot) (nI b) := by
  unfold wpX_giveNode
  dsimp only
  refine ⟨by rw [hfc]; exact vp_in_nI hn (by decide), ?_⟩
  rw [hfc, nI_clamp (n := n) (by omega)]
  exact nm_e (nm_r (nI_1 n) h)
theorem xt_ul41 {post : SX → Prop} {b : Nat} {L B : List Nat} (hL : ∀ c ∈ L, c < 122) (hn : L.Nodup) (hk : cc_k a_follower L) (h : ∀ A' al, L = A' ++ al :: b :: B → wX_unlink_75 post (nI b) (nI al) f_top f_freeCount f_count f_listed f_current a_orders a_follower a_slices a_values a_held a_below a_freeNodes a_path a_wordAt a_valueAt a_node a_spot) : ∀ (A2 A1 : List Nat) (a : Nat), L = A1 ++ a :: (A2 ++ b :: B) → wX_unlink_41 post (nI b) f_top f_freeCount f_count f_listed f_current a_orders a_follower a_slices a_values a_held a_below a_freeNodes a_path a_wordAt a_valueAt a_node a_spot (A2.length + 1) (nI a) := by
  intro A2
  induction A2 with
  | nil =>
    intro A1 a e
    have ha : a < 122 := hL a (by rw [e]; exact List.mem_append.mpr (Or.inr List.mem_cons_self))
    have hb : b < 122 := hL b (by rw [e]; exact List.mem_append.mpr (Or.inr (List.mem_cons_of_mem _ List.mem_cons_self)))
    have fa : a_follower a = nI b := by rw [e] at hk; exact (cc_kapp hk).1
    have va : vp_in (nI a) 122 := vp_in_nI ha (by decide)
    rw [wX_unlink_41]
    dsimp only
    rw [nI_clamp (n := a) (by omega), fa]
    exact ⟨va, br_f (xt_n1 (by omega)) ⟨va, br_t rfl (h A1 a e)⟩⟩
  | cons c A2 ih =>
    intro A1 a e
    have ha : a < 122 := hL a (by rw [e]; exact List.mem_append.mpr (Or.inr List.mem_cons_self))
    have hb : b < 122 := hL b (by rw [e]; exact List.mem_append.mpr (Or.inr (List.mem_cons_of_mem _ (List.mem_append.mpr (Or.inr List.mem_cons_self)))))
    have hc : c < 122 := hL c (by rw [e]; exact List.mem_append.mpr (Or.inr (List.mem_cons_of_mem _ List.mem_cons_self)))
    have fa : a_follower a = nI c := by rw [e] at hk; exact (cc_kapp hk).1
    have va : vp_in (nI a) 122 := vp_in_nI ha (by decide)
    have cb : c ≠ b := fun z => by
      rw [e] at hn
      have n2 := (List.nodup_append.mp hn).2.1
      have n3 := (List.nodup_cons.mp (List.nodup_cons.mp n2).2).1
      exact n3 (by rw [z]; exact List.mem_append.mpr (Or.inr List.mem_cons_self))
    rw [wX_unlink_41]
    dsimp only
    rw [nI_clamp (n := a) (by omega), fa]
    refine ⟨va, br_f (xt_n1 (by omega)) ⟨va, br_f (fun z => cb ((nI_eq (by omega) (by omega)).mp z)) ⟨va, nm_e (ih (A1 ++ [a]) c ?_)⟩⟩⟩
    rw [e, List.append_assoc]
    rfl
theorem xt_unlink {post : SX → Prop} {C : Nat → List Nat} {K : List (Nat × Int32)} {p b : Nat} {A B : List Nat} {x1 : Int32} (hC : C p = A ++ b :: B) (hz : oo_z (a_orders b) = 0) (I : ti_I p p C K f_top f_freeCount a_orders a_follower a_slices a_values a_held a_below a_freeNodes) (hy : ∀ c, c ∈ C p → c ≠ b → 1 ≤ oo_z (a_orders c)) (hx1 : (p = 0 ∧ x1 = -1) ∨ ∃ e, x1 = nI e ∧ xt_at a_orders a_slices C p e) (h : ∀ (C' : Nat → List Nat) (top' fc' : Int32) (f' w' fr' : Nat → Int32), ti_I p 6561 C' K top' fc' a_orders f' a_slices a_values a_held w' fr' → (∀ q, cc_E a_orders (C' q) = cc_E a_orders (C q)) → post (top', fc', f_count, f_listed, f_current, a_orders, f', a_slices, a_values, a_held, w', fr', a_path, a_wordAt, a_valueAt, a_node, a_spot)) : wpX_unlink post (f_top, f_freeCount, f_count, f_listed, f_current, a_orders, a_follower, a_slices, a_values, a_held, a_below, a_freeNodes, a_path, a_wordAt, a_valueAt, a_node, a_spot) x1 (nI b) := by
  have I' := I
  obtain ⟨i1, i2, i3, i4, i5, i6, i7, i8, i9, i10, i11, i12, i13⟩ := I
  have hbp : b ∈ C p := by rw [hC]; exact List.mem_append.mpr (Or.inr List.mem_cons_self)
  have hb := (i3 p b hbp).1
  have vb : vp_in (nI b) 122 := vp_in_nI hb (by decide)
  have hnd := i10 p
  have hkp := i2 p
  rw [hC] at hnd hkp
  have fb : a_follower b = cc_h B := (cc_kapp hkp).1
  obtain ⟨m1, m2, m3⟩ := List.nodup_append.mp hnd
  obtain ⟨m4, m5⟩ := List.nodup_cons.mp m2
  have nb : ∀ q, b ∉ ti_u C p (A ++ B) q := by
    intro q hq
    by_cases z : q = p
    · rw [z, ti_us] at hq
      rcases List.mem_append.mp hq with y | y
      · exact m3 b y b List.mem_cons_self rfl
      · exact m4 y
    · rw [ti_un z] at hq
      exact z (i9 q p b hq hbp)
  obtain ⟨n, n1, n2, hF⟩ := ti_push (C' := ti_u C p (A ++ B)) i11 hb ⟨p, hbp⟩ (fun c => by
    constructor
    · rintro ⟨q, hq⟩
      by_cases zc : c = b
      · exact Or.inl zc
      · refine Or.inr ⟨q, ?_⟩
        by_cases z : q = p
        · rw [z, ti_us]
          rw [z, hC] at hq
          rcases List.mem_append.mp hq with y | y
          · exact List.mem_append.mpr (Or.inl y)
          · rcases List.mem_cons.mp y with y | y
            · exact absurd y zc
            · exact List.mem_append.mpr (Or.inr y)
        · rw [ti_un z]; exact hq
    · rintro (z | ⟨q, hq⟩)
      · exact ⟨p, by rw [z]; exact hbp⟩
      · refine ⟨q, ?_⟩
        by_cases z : q = p
        · rw [z, hC]
          rw [z, ti_us] at hq
          rcases List.mem_append.mp hq with y | y
          · exact List.mem_append.mpr (Or.inl y)
          · exact List.mem_append.mpr (Or.inr (List.mem_cons_of_mem _ y))
        · rw [ti_un z] at hq; exact hq) nb
  have pne : ∀ e, xt_at a_orders a_slices C p e → p ≠ 0 := fun e he z => by
    have h9 := (i5 _ e he.1).1
    have h0 := he.2
    rw [z] at h0
    omega
  have wup : ∀ (e : Nat) (z0 : Int32), xt_at a_orders a_slices C p e → ∀ q e', e' ∈ cc_E a_orders (C q) → upd a_below e z0 e' = if 81 * q + cc_s a_slices e' = p then z0 else a_below e' := fun e z0 he q e' he' => by
    have h0 := he.2
    by_cases z : e' = e
    · subst z
      have := ti_pq I' he' he.1
      rw [pk_us, if_pos (by omega)]
    · rw [pk_un z, if_neg]
      intro q2
      exact z (ti_uq I' he' he.1 (by omega))
  have K18 : ∀ z0, z0 = cc_h (C p) → wX_unlink_18 post x1 (nI b) z0 f_top f_freeCount f_count f_listed f_current a_orders a_follower a_slices a_values a_held a_below a_freeNodes a_path a_wordAt a_valueAt a_node a_spot := by
    intro z0 ez
    rw [ez]
    unfold wX_unlink_18
    cases A with
    | nil =>
      have e1 : cc_h (C p) = nI b := by rw [hC]; rfl
      rw [e1]
      refine br_t rfl ⟨vb, ?_⟩
      rw [nI_clamp (n := b) (by omega), fb]
      rcases hx1 with ⟨p0, x0⟩ | ⟨e, ex, he⟩
      · rw [x0]
        refine xt_set0 ?_
        dsimp only
        unfold wX_unlink_88
        refine xt_give n2 n1 ?_
        dsimp only
        obtain ⟨I2, eE⟩ := ti_unl (top' := cc_h B) (f' := a_follower) (w' := a_below) hC hz I' hy hkp.2 (fun _ _ => rfl) hF (by rw [if_pos p0]; rfl) (fun q e he => by
          rw [if_neg]
          have := (i5 q e he).1
          omega)
        exact h _ _ _ _ _ _ I2 eE
      · rw [ex]
        have l4 := ti_at488 I' he
        refine xt_set1 l4 ?_
        dsimp only
        unfold wX_unlink_88
        refine xt_give n2 n1 ?_
        dsimp only
        obtain ⟨I2, eE⟩ := ti_unl (top' := f_top) (f' := a_follower) (w' := upd a_below e (cc_h B)) hC hz I' hy hkp.2 (fun _ _ => rfl) hF (by rw [if_neg (pne e he)]) (fun q e' he' => wup e _ he q e' he')
        exact h _ _ _ _ _ _ I2 eE
    | cons a A =>
      have ha := (i3 p a (by rw [hC]; exact List.mem_cons_self)).1
      have e1 : cc_h (C p) = nI a := by rw [hC]; rfl
      have ab : a ≠ b := fun z => m3 a List.mem_cons_self b List.mem_cons_self z
      rw [e1]
      refine br_f (fun z => ab ((nI_eq (by omega) (by omega)).mp z)) ⟨A.length + 1, ?_⟩
      refine xt_ul41 (L := C p) (B := B) (fun c hc => (i3 p c hc).1) (i10 p) (i2 p) (fun A' al e => ?_) A [] a hC
      have hal := (i3 p al (by rw [e]; exact List.mem_append.mpr (Or.inr List.mem_cons_self))).1
      have val : vp_in (nI al) 122 := vp_in_nI hal (by decide)
      unfold wX_unlink_75
      rw [nI_clamp (n := b) (by omega), nI_clamp (n := al) (by omega)]
      refine ⟨vb, val, nm_e ?_⟩
      unfold wX_unlink_88
      refine xt_give n2 n1 ?_
      dsimp only
      have eA : a :: A = A' ++ [al] := by
        have : (a :: A) ++ b :: B = (A' ++ [al]) ++ b :: B := by rw [← hC, e, List.append_assoc]; rfl
        exact List.append_cancel_right this
      have hk2 : cc_k (upd a_follower al (a_follower b)) ((a :: A) ++ B) := by
        have k0 := i2 p
        have d0 := i10 p
        rw [e] at k0 d0
        have := cc_kdel d0 k0
        rw [eA, List.append_assoc]
        exact this
      have halp : al ∈ C p := by rw [e]; exact List.mem_append.mpr (Or.inr List.mem_cons_self)
      have hh : cc_h ((a :: A) ++ B) = cc_h (C p) := by rw [hC]; rfl
      obtain ⟨I2, eE⟩ := ti_unl (top' := f_top) (f' := upd a_follower al (a_follower b)) (w' := a_below) hC hz I' hy hk2 (fun d hd => pk_un (fun z => hd (z ▸ halp))) hF (by
        by_cases p0 : p = 0
        · rw [if_pos p0, hh, p0]; exact i1
        · rw [if_neg p0]) (fun q e' he' => by
        by_cases z : 81 * q + cc_s a_slices e' = p
        · rw [if_pos z, hh, ← z]; exact (i5 q e' he').2.1
        · rw [if_neg z])
      exact h _ _ _ _ _ _ I2 eE
  unfold wpX_unlink
  dsimp only
  have hx2 := hx1
  rcases hx1 with ⟨p0, x0⟩ | ⟨e, ex, he⟩
  · refine br_t x0 (K18 _ ?_)
    rw [p0]; exact i1
  · have l4 := ti_at488 I' he
    refine br_f (by rw [ex]; exact xt_n1 (by omega)) ⟨by rw [ex]; exact vp_in_nI l4 (by decide), K18 _ ?_⟩
    rw [ex, nI_clamp (by omega)]
    exact ti_atw I' he
theorem xt_drop {post : SX → Prop} {C : Nat → List Nat} {K : List (Nat × Int32)} {p e : Nat} {x1 : Int32} (he : e ∈ cc_E a_orders (C p)) (I : ti_I (81 * p + cc_s a_slices e) 6561 C K f_top f_freeCount a_orders a_follower a_slices a_values a_held a_below a_freeNodes) (hh : a_held e = 0) (hnil : C (81 * p + cc_s a_slices e) = []) (hx1 : (p = 0 ∧ x1 = -1) ∨ ∃ e, x1 = nI e ∧ xt_at a_orders a_slices C p e) (h : ∀ (C' : Nat → List Nat) (top' fc' : Int32) (o' f' w' fr' : Nat → Int32), ti_I p 6561 C' K top' fc' o' f' a_slices a_values a_held w' fr' → (∀ q e', e' ∈ cc_E a_orders (C q) → e' ≠ e → e' ∈ cc_E o' (C' q)) → post (top', fc', f_count, f_listed, f_current, o', f', a_slices, a_values, a_held, w', fr', a_path, a_wordAt, a_valueAt, a_node, a_spot)) : wpX_dropEntry post (f_top, f_freeCount, f_count, f_listed, f_current, a_orders, a_follower, a_slices, a_values, a_held, a_below, a_freeNodes, a_path, a_wordAt, a_valueAt, a_node, a_spot) x1 (nI e) := by
  have I' := I
  obtain ⟨i1, i2, i3, i4, i5, i6, i7, i8, i9, i10, i11, i12, i13⟩ := I
  obtain ⟨hb4, hbe, l4⟩ := ti_E4 I' he
  have hb := i3 p _ hb4
  have z4 := (oo_a _ hb.2.1).1
  have p6 := (i8 p (fun z => by rw [z] at hb4; cases hb4)).1
  generalize hbb : e / 4 = b at *
  obtain ⟨k, hk, ek⟩ := cc_me.mp hbe
  have ck := (oo_b _ hb.2.1 k (by omega)).1
  obtain ⟨A, B, hC⟩ := List.append_of_mem hb4
  have hp4 := i4 p
  rw [hC, cc_Ea, cc_Ec] at hp4
  have hpb : (cc_e a_orders b).Pairwise (fun a c => cc_s a_slices a < cc_s a_slices c) := (List.pairwise_append.mp (List.pairwise_append.mp hp4).2.1).1
  have vb : vp_in (nI b) 122 := vp_in_nI hb.1 (by decide)
  have ve : vp_in (nI e) 488 := vp_in_nI l4 (by decide)
  have div4 : nI e / 4 = nI b := by
    have := pk_div (a := e) (d := 4) (by omega) (by decide) (by decide)
    rw [hbb] at this
    exact this
  have rem4 : nI e - nI e / 4 * 4 = nI (oo_c (a_orders b) k) := by
    have := pk_rem (a := e) (d := 4) (by omega) (by decide) (by decide)
    have e2 : e % 4 = oo_c (a_orders b) k := by omega
    rw [e2] at this
    exact this
  have se := i6 e
  unfold wpX_dropEntry
  dsimp only
  rw [rem4, div4]
  refine ⟨by decide, nm_e ?_⟩
  refine cc_sizeOfNode hb.1 hb.2.1 ⟨ve, ?_⟩
  rw [nI_clamp (n := e) (by omega), se.2]
  refine cc_lesserIn hb.1 hb.2.1 i6 se.1 (fun k' hk1 hk2 hk3 => ?_)
  have ekk : k' = k := by
    rcases Nat.lt_trichotomy k' k with q | q | q
    · have q1 := hk3 (by omega)
      have q2 := cc_inc hpb q hk
      rw [ek] at q1
      omega
    · exact q
    · have q1 := hk2 k q
      rw [ek] at q1
      omega
  subst ekk
  rw [nI_clamp (n := b) (by omega)]
  refine ⟨vb, nm_e (nm_e (nm_e (nm_e ⟨by decide, nm_e (nm_e ⟨vb, nm_r (e' := upd a_orders b (oo_del (a_orders b) (nI (oo_c (a_orders b) k')) k' (oo_z (a_orders b)))) rfl ?_⟩)⟩)))⟩
  rw [ek] at I' hh hnil
  obtain ⟨I2, mO, hz2⟩ := ti_drop hC hk I' hh hnil
  rw [← ek] at mO
  refine pk_eq (oo_z (a_orders b)) 1 (fun q => ?_) (fun q => ?_)
  · rw [if_pos q] at I2
    refine xt_unlink (A := A) (B := B) hC (by rw [pk_us, hz2, q]) I2 (fun c hc hcb => ?_) ?_ (fun C' top' fc' f' w' fr' I3 eE => ?_)
    · rw [pk_un hcb]
      exact (i3 p c hc).2.2 (by omega)
    · rcases hx1 with z | ⟨e', ex, he'⟩
      · exact Or.inl z
      · refine Or.inr ⟨e', ex, mO _ e' he'.1 (fun z => ?_), he'.2⟩
        have he1 := he'.1
        rw [z] at he1
        have y1 := (ti_E4 I' he1).1
        rw [hbb] at y1
        have y2 := i9 _ p b y1 hb4
        have h9 := (i5 _ _ he1).1
        have h0 := he'.2
        rw [z] at h0
        omega
    · dsimp only
      exact h _ _ _ _ _ _ _ I3 (fun q e' he' hne => by rw [eE]; exact mO q e' he' hne)
  · rw [if_neg q] at I2
    exact h _ _ _ _ _ _ _ I2 mO
end
end
section
/-! takeOut and remove -/
theorem ww_ptlt {n : Nat} : ∀ {i m : Nat}, i ≤ ww_l n → m < i → ww_pt n m < ww_pt n i := by
  intro i
  induction i with
  | zero => intro m _ h; omega
  | succ i ih =>
    intro m hi hm
    have s := (ww_sb (n := n) (j := i) (by omega)).1
    have e : ww_pt n (i + 1) = 81 * ww_pt n i + ww_s n i := rfl
    rcases Nat.lt_or_ge m i with q | q
    · have := ih (by omega) q
      omega
    · have : m = i := by omega
      subst this
      omega
section
variable {f_top f_freeCount f_count f_listed f_current : Int32} {a_orders a_follower a_slices a_values a_held a_below a_freeNodes a_path a_wordAt a_valueAt a_node a_spot : Nat → Int32}
theorem xt_to94 {post : SX → Prop} {n : Nat} {K : List (Nat × Int32)} (hn : ww_w n) (h : ∀ (C : Nat → List Nat) (f_top f_freeCount : Int32) (a_orders a_follower a_below a_freeNodes : Nat → Int32), ti_I 0 6561 C K f_top f_freeCount a_orders a_follower a_slices a_values a_held a_below a_freeNodes → post (f_top, f_freeCount, f_count, f_listed, f_current, a_orders, a_follower, a_slices, a_values, a_held, a_below, a_freeNodes, a_path, a_wordAt, a_valueAt, a_node, a_spot)) : ∀ (i : Nat) (C : Nat → List Nat) (f_top f_freeCount : Int32) (a_orders a_follower a_below a_freeNodes : Nat → Int32), i ≤ ww_l n → ti_I (ww_pt n i) 6561 C K f_top f_freeCount a_orders a_follower a_slices a_values a_held a_below a_freeNodes → (∀ m, m < i → ∃ e, a_path m = nI e ∧ xt_at a_orders a_slices C (ww_pt n (m + 1)) e) → wX_takeOut_94 post (i + 1) (nI i + (-1)) f_top f_freeCount f_count f_listed f_current a_orders a_follower a_slices a_values a_held a_below a_freeNodes a_path a_wordAt a_valueAt a_node a_spot := by
  have l3 := ww_l3 hn
  intro i
  induction i with
  | zero =>
    intro C f_top f_freeCount a_orders a_follower a_below a_freeNodes hi I hp
    exact br_t (by decide) (h C _ _ _ _ _ _ I)
  | succ i ih =>
    intro C f_top f_freeCount a_orders a_follower a_below a_freeNodes hi I hp
    obtain ⟨e, ep, he⟩ := hp i (by omega)
    have l4 := ti_at488 I he
    obtain ⟨d1, d2⟩ := ww_ptd n i
    have ve : vp_in (nI e) 488 := vp_in_nI l4 (by decide)
    have vi : vp_in (nI i) 3 := vp_in_nI (by omega) (by decide)
    have he1 := he.1
    have he2 := he.2
    rw [d1] at he1
    rw [d2] at he2
    have hpath : 81 * ww_pt n i + cc_s a_slices e = ww_pt n (i + 1) := by rw [he2]; rfl
    have i5 := I.2.2.2.2.1
    have i7 := I.2.2.2.2.2.2.1
    rw [wX_takeOut_94]
    dsimp only
    rw [pk_m1]
    refine br_f (nI_pos (by omega)) ⟨vi, ?_⟩
    rw [nI_clamp (n := i) (by omega), ep]
    refine nm_e ⟨ve, ?_⟩
    rw [nI_clamp (n := e) (by omega)]
    have next : ti_I (ww_pt n i) 6561 C K f_top f_freeCount a_orders a_follower a_slices a_values a_held a_below a_freeNodes → wX_takeOut_94 post (i + 1) (nI i + (-1)) f_top f_freeCount f_count f_listed f_current a_orders a_follower a_slices a_values a_held a_below a_freeNodes a_path a_wordAt a_valueAt a_node a_spot := fun I1 => ih C _ _ _ _ _ _ (by omega) I1 (fun m hm => hp m (by omega))
    rcases i7 e with z | z
    · refine br_t z ⟨ve, ?_⟩
      have wn : ∀ b, b ∈ C (ww_pt n (i + 1)) → b < 122 := fun b hb => (I.2.2.1 _ b hb).1
      have we := ti_atw I he
      rw [we]
      refine xw_if (cc_hn wn) (fun q => ?_) (fun q => nm_e (next (ti_wk0 I _ q)))
      have D : ∀ x1 : Int32, ((ww_pt n i = 0 ∧ x1 = -1) ∨ ∃ e, x1 = nI e ∧ xt_at a_orders a_slices C (ww_pt n i) e) → wX_takeOut_147 post (wX_takeOut_94 post (i + 1)) (nI i) (nI e) x1 f_top f_freeCount f_count f_listed f_current a_orders a_follower a_slices a_values a_held a_below a_freeNodes a_path a_wordAt a_valueAt a_node a_spot := by
        intro x1 hx1
        unfold wX_takeOut_147
        refine xt_drop (p := ww_pt n i) he1 (by rw [hpath]; exact I) z (by rw [hpath]; exact q) hx1 (fun C' top' fc' o' f' w' fr' I2 mO => ?_)
        dsimp only
        refine nm_e (ih C' _ _ _ _ _ _ (by omega) I2 (fun m hm => ?_))
        obtain ⟨e', ep', he'⟩ := hp m (by omega)
        refine ⟨e', ep', mO _ e' he'.1 (fun y => ?_), he'.2⟩
        have q1 := he'.1
        have q2 := he'.2
        rw [y] at q1 q2
        have q3 := ti_pq I q1 he1
        have q4 := ww_ptlt (n := n) (i := i + 1) (m := m + 1) hi (by omega)
        omega
      by_cases i0 : i = 0
      · subst i0
        exact br_t rfl (D (-1) (Or.inl ⟨rfl, rfl⟩))
      · refine br_f (nI_ne0 (by omega) (by omega)) ?_
        have e1 : nI i - 1 = nI (i - 1) := xw_s1 (by omega)
        rw [e1, nI_clamp (n := i - 1) (by omega)]
        refine ⟨vp_in_nI (by omega) (by decide), D _ (Or.inr ?_)⟩
        obtain ⟨e', ep', he'⟩ := hp (i - 1) (by omega)
        have e2 : i - 1 + 1 = i := by omega
        rw [e2] at he'
        exact ⟨e', ep', he'⟩
    · refine br_f (by rw [z]; decide) (nm_e (next (ti_wk I _ (fun p' e' he' hx => ?_))))
      have : e' = e := ti_uq I he' he1 (by rw [hpath]; exact hx)
      rw [this]
      exact Or.inl z
theorem xt_to13 {post : SX → Prop} {n : Nat} {K : List (Nat × Int32)} {C : Nat → List Nat} (hn : ww_w n) (hS : kk_S K) (hm : ∃ y, (n, y) ∈ K) (I : ti_I 0 6561 C K f_top f_freeCount a_orders a_follower a_slices a_values a_held a_below a_freeNodes) (h : ∀ (C : Nat → List Nat) (f_top f_freeCount : Int32) (a_orders a_follower a_held a_below a_freeNodes a_path : Nat → Int32), ti_I 0 6561 C (kk_del K n) f_top f_freeCount a_orders a_follower a_slices a_values a_held a_below a_freeNodes → post (f_top, f_freeCount, f_count - 1, f_listed, 0, a_orders, a_follower, a_slices, a_values, a_held, a_below, a_freeNodes, a_path, a_wordAt, a_valueAt, a_node, a_spot)) : ∀ (d j : Nat) (x2 : Int32) (a_path : Nat → Int32), j + d = ww_l n → x2 = cc_h (C (ww_pt n j)) → (∀ m, m < j → ∃ e, a_path m = nI e ∧ xt_at a_orders a_slices C (ww_pt n (m + 1)) e) → wX_takeOut_13 post (nI n) (nI (ww_l n)) f_top f_freeCount f_count f_listed f_current (d + 1) x2 (nI j) a_orders a_follower a_slices a_values a_held a_below a_freeNodes a_path a_wordAt a_valueAt a_node a_spot := by
  have l3 := ww_l3 hn
  obtain ⟨y0, hy0⟩ := hm
  have full : ∃ e, xt_at a_orders a_slices C (ww_p n) e := by
    obtain ⟨e, he, a1, _⟩ := I.2.2.2.2.2.2.2.2.2.2.2.1 _ hy0
    exact ⟨e, he, a1⟩
  intro d
  induction d with
  | zero =>
    intro j x2 a_path hj hx2 hp
    have ej : j = ww_l n := by omega
    subst ej
    refine br_t (nI_le (Nat.le_refl _) (by omega)) ?_
    have e1 : nI (ww_l n) - 1 = nI (ww_l n - 1) := xw_s1 (by omega)
    obtain ⟨e, ep, he⟩ := hp (ww_l n - 1) (by omega)
    have e2 : ww_l n - 1 + 1 = ww_l n := by omega
    rw [e2] at he
    have l4 := ti_at488 I he
    have ve : vp_in (nI e) 488 := vp_in_nI l4 (by decide)
    rw [e1, nI_clamp (n := ww_l n - 1) (by omega), ep, nI_clamp (n := e) (by omega), xt_nar (Or.inl rfl)]
    refine ⟨vp_in_nI (by omega) (by decide), ve, nm_e (nm_e (nm_r (e' := nI (ww_l n) + (-1)) ?_ ⟨ww_l n + 1, ?_⟩))⟩
    · rw [sb_m1 (by omega)]
    refine xt_to94 hn (fun C' f_top' f_freeCount' a_orders' a_follower' a_below' a_freeNodes' I2 => h C' _ _ _ _ _ _ _ _ I2) (ww_l n) C _ _ _ _ _ _ (Nat.le_refl _) ?_ hp
    refine ti_free hn (e := e) (p := ww_p n / 81) ?_ I he.1 hS.1 (fun a => kk_del_mem) pk_us (fun e' z => pk_un z)
    have : cc_s a_slices e = ww_p n % 81 := he.2
    omega
  | succ d ih =>
    intro j x2 a_path hj hx2 hp
    rw [wX_takeOut_13]
    refine br_f (nI_ge (by omega) (by omega)) ?_
    rw [hx2]
    refine xw_sliceOf hn (by omega) ?_
    have anc : ∃ e, xt_at a_orders a_slices C (ww_pt n (j + 1)) e := by
      refine ti_anc I d (by omega) ?_
      have e2 : ww_p n = ww_pt n (j + d + 1) := by unfold ww_p; congr 1; omega
      rw [← e2]
      exact full
    refine xt_ef I (by omega) (fun e he => ?_) (fun q => by obtain ⟨e, he⟩ := anc; exact absurd he (q e))
    have l4 := ti_at488 I he
    have ve : vp_in (nI e) 488 := vp_in_nI l4 (by decide)
    have vj : vp_in (nI j) 3 := vp_in_nI (by omega) (by decide)
    rw [nI_clamp (n := j) (by omega)]
    refine ⟨vj, nm_e ⟨vj, ?_⟩⟩
    rw [pk_us, nI_clamp (n := e) (by omega)]
    refine ⟨ve, nm_e (nm_r (nI_1 j) (ih (j + 1) _ _ (by omega) (ti_atw I he) (fun m hm => ?_)))⟩
    by_cases z : m = j
    · subst z
      exact ⟨e, pk_us, he⟩
    · obtain ⟨e', ep', he'⟩ := hp m (by omega)
      exact ⟨e', by rw [pk_un z]; exact ep', he'⟩
theorem xt_takeOut {post : SX → Prop} {n : Nat} {K : List (Nat × Int32)} {C : Nat → List Nat} (hn : ww_w n) (hS : kk_S K) (hm : ∃ y, (n, y) ∈ K) (I : ti_I 0 6561 C K f_top f_freeCount a_orders a_follower a_slices a_values a_held a_below a_freeNodes) (h : ∀ (C : Nat → List Nat) (f_top f_freeCount : Int32) (a_orders a_follower a_held a_below a_freeNodes a_path : Nat → Int32), ti_I 0 6561 C (kk_del K n) f_top f_freeCount a_orders a_follower a_slices a_values a_held a_below a_freeNodes → post (f_top, f_freeCount, f_count - 1, f_listed, 0, a_orders, a_follower, a_slices, a_values, a_held, a_below, a_freeNodes, a_path, a_wordAt, a_valueAt, a_node, a_spot)) : wpX_takeOut post (f_top, f_freeCount, f_count, f_listed, f_current, a_orders, a_follower, a_slices, a_values, a_held, a_below, a_freeNodes, a_path, a_wordAt, a_valueAt, a_node, a_spot) (nI n) := by
  have ln := ww_lt hn.1
  unfold wpX_takeOut
  dsimp only
  refine xw_layersOf (by omega) ⟨ww_l n + 1, ?_⟩
  exact xt_to13 hn hS hm I h (ww_l n) 0 f_top a_path (by omega) I.1 (fun m hm => absurd hm (by omega))
end
theorem xx_remove {post : Int32 → SX → Prop} {K : List (Nat × Int32)} {u : SX} {r : Int32} (hR : xx_R K u)
    (hb : ¬ ww_w r.toNatClampNeg → post (-1) u)
    (hf : ww_w r.toNatClampNeg → (∀ y, (r.toNatClampNeg, y) ∉ K) → post (-2) u)
    (hi : ww_w r.toNatClampNeg → (∃ y, (r.toNatClampNeg, y) ∈ K) → ∀ u', xx_R (kk_del K r.toNatClampNeg) u' → post 0 u') : wpX_remove post u r := by
  obtain ⟨f_top, f_freeCount, f_count, f_listed, f_current, a_orders, a_follower, a_slices, a_values, a_held, a_below, a_freeNodes, a_path, a_wordAt, a_valueAt, a_node, a_spot⟩ := u
  obtain ⟨hS, hc, hl, C, I⟩ := hR
  unfold wpX_remove
  dsimp only
  refine xw_isWord r (fun w => ?_) (fun w => br_t rfl (hb w))
  refine br_f (by decide) ?_
  have er := yy_wi w
  generalize r.toNatClampNeg = n at *
  subst er
  refine xt_find I w (fun e he => ?_) (fun q => ?_)
  · have l4 := ti_at488 I he
    have ve : vp_in (nI e) 488 := vp_in_nI l4 (by decide)
    rw [nI_clamp (n := e) (by omega)]
    refine br_f (nI_pos (by omega)) ⟨ve, ?_⟩
    rcases xx_in I hS.1 w he with ⟨z1, z2⟩ | ⟨z1, z2⟩
    · exact br_t z1 (hf w z2)
    · refine br_f (by rw [z1]; decide) ?_
      refine xt_takeOut w hS ⟨_, z2⟩ I (fun C' f_top' f_freeCount' a_orders' a_follower' a_held' a_below' a_freeNodes' a_path' I2 => ?_)
      dsimp only
      refine hi w ⟨_, z2⟩ _ ⟨kk_del_S hS, ?_, Or.inl rfl, C', I2⟩
      have := kk_del_len hS z2
      rw [hc, this]
      exact nI_pred _
  · exact br_t (by decide) (hf w (xx_out I q))
end
section
/-! the listing: what is listed so far is K below a key -/
def kk_b (K : List (Nat × Int32)) (c : Nat) : List (Nat × Int32) := K.filter (fun a => decide (ww_k a.1 < c))
theorem kk_bm {K : List (Nat × Int32)} {c : Nat} {a : Nat × Int32} : a ∈ kk_b K c ↔ a ∈ K ∧ ww_k a.1 < c := by
  unfold kk_b
  rw [List.mem_filter, decide_eq_true_iff]
theorem kk_bs {K : List (Nat × Int32)} {c : Nat} (h : K.Pairwise (fun a b => ww_k a.1 < ww_k b.1)) : (kk_b K c).Pairwise (fun a b => ww_k a.1 < ww_k b.1) := h.filter _
theorem kk_beq {K : List (Nat × Int32)} {c d : Nat} (h : K.Pairwise (fun a b => ww_k a.1 < ww_k b.1)) (hcd : c ≤ d) (hn : ∀ a, a ∈ K → c ≤ ww_k a.1 → ¬ ww_k a.1 < d) : kk_b K c = kk_b K d := by
  refine kk_ext (kk_bs h) (kk_bs h) (fun a => ?_)
  rw [kk_bm, kk_bm]
  constructor
  · rintro ⟨h1, h2⟩
    exact ⟨h1, by omega⟩
  · rintro ⟨h1, h2⟩
    refine ⟨h1, ?_⟩
    have := hn a h1
    omega
theorem kk_bsucc {K : List (Nat × Int32)} {c : Nat} {a : Nat × Int32} (h : kk_S K) (ha : a ∈ K) (hc : ww_k a.1 = c) : kk_b K (c + 1) = kk_b K c ++ [a] := by
  refine kk_ext (kk_bs h.2.1) (List.pairwise_append.mpr ⟨kk_bs h.2.1, List.pairwise_singleton _ _, fun b hb d hd => ?_⟩) (fun b => ?_)
  · rw [List.mem_singleton.mp hd]
    have := (kk_bm.mp hb).2
    omega
  · rw [kk_bm, List.mem_append, kk_bm, List.mem_singleton]
    constructor
    · rintro ⟨h1, h2⟩
      by_cases q : ww_k b.1 < c
      · exact Or.inl ⟨h1, q⟩
      · exact Or.inr (kk_uq h.2.1 b h1 a ha (ww_kinj (h.1 b h1) (h.1 a ha) (by omega)))
    · rintro (⟨h1, h2⟩ | q)
      · exact ⟨h1, by omega⟩
      · rw [q]; exact ⟨ha, by omega⟩
theorem kk_ble {K : List (Nat × Int32)} {c d : Nat} (hcd : c ≤ d) : (kk_b K c).length ≤ (kk_b K d).length := by
  unfold kk_b
  rw [← List.countP_eq_length_filter, ← List.countP_eq_length_filter]
  refine List.countP_mono_left (fun a _ h => ?_)
  have := of_decide_eq_true h
  exact decide_eq_true (by omega)
theorem kk_blt {K : List (Nat × Int32)} {c d : Nat} {a : Nat × Int32} (h : kk_S K) (ha : a ∈ K) (h1 : c ≤ ww_k a.1) (h2 : ww_k a.1 < d) : (kk_b K c).length + 1 ≤ (kk_b K d).length := by
  have e1 := kk_ble (K := K) h1
  have e2 : (kk_b K (ww_k a.1 + 1)).length = (kk_b K (ww_k a.1)).length + 1 := by rw [kk_bsucc h ha rfl, List.length_append, List.length_singleton]
  have e3 := kk_ble (K := K) (c := ww_k a.1 + 1) (d := d) (by omega)
  omega
theorem kk_bK {K : List (Nat × Int32)} {c : Nat} : (kk_b K c).length ≤ K.length := List.length_filter_le _ _
/-- units of the three layers -/
def li_U (j U : Nat) : Prop := (j = 0 ∧ U = 6561) ∨ (j = 1 ∧ U = 81) ∨ (j = 2 ∧ U = 1)
theorem ww_ks (n : Nat) : ww_k n = ww_pt n 3 := by rw [ww_pt3]; rfl
theorem li_pt {j U n : Nat} (h : li_U j U) : ww_pt n (j + 1) * U ≤ ww_k n ∧ ww_k n < ww_pt n (j + 1) * U + U ∧ ww_pt n j * (81 * U) ≤ ww_k n ∧ ww_k n < ww_pt n j * (81 * U) + 81 * U := by
  have a0 := ww_s81 n 0
  have a1 := ww_s81 n 1
  have a2 := ww_s81 n 2
  have e0 : ww_pt n 0 = 0 := rfl
  have e1 := ww_pt1 n
  have e2 := ww_pt2 n
  have e3 := ww_pt3 n
  rw [ww_ks]
  rcases h with ⟨rfl, rfl⟩ | ⟨rfl, rfl⟩ | ⟨rfl, rfl⟩
  · rw [show (0 + 1 : Nat) = 1 from rfl, e0, e1, e3]; omega
  · rw [show (1 + 1 : Nat) = 2 from rfl, e1, e2, e3]; omega
  · rw [show (2 + 1 : Nat) = 3 from rfl, e2, e3]; omega
theorem li_pe {j U n q : Nat} (h : li_U j U) (h1 : q * U ≤ ww_k n) (h2 : ww_k n < q * U + U) : ww_pt n (j + 1) = q := by
  have := li_pt (n := n) h
  generalize ww_pt n (j + 1) = m at *
  rcases h with ⟨_, rfl⟩ | ⟨_, rfl⟩ | ⟨_, rfl⟩ <;> omega
/-- a word no longer than the layer -/
theorem li_pz {j U n : Nat} (h : li_U j U) (hl : ww_l n ≤ j + 1) : ww_k n = ww_pt n (j + 1) * U := by
  have e1 := ww_pt1 n
  have e2 := ww_pt2 n
  have e3 := ww_pt3 n
  have z1 := @ww_s0 n 1
  have z2 := @ww_s0 n 2
  rw [ww_ks]
  rcases h with ⟨rfl, rfl⟩ | ⟨rfl, rfl⟩ | ⟨rfl, rfl⟩
  · rw [show (0 + 1 : Nat) = 1 from rfl, e1, e3, z1 (by omega), z2 (by omega)]; omega
  · rw [show (1 + 1 : Nat) = 2 from rfl, e2, e3, z2 (by omega)]; omega
  · rw [show (2 + 1 : Nat) = 3 from rfl, e3]; omega
theorem li_pz0 {j U n : Nat} (h : li_U j U) (hl : ww_l n ≤ j) : ww_k n = ww_pt n j * (81 * U) := by
  have e0 : ww_pt n 0 = 0 := rfl
  have e1 := ww_pt1 n
  have e2 := ww_pt2 n
  have e3 := ww_pt3 n
  have z0 := @ww_s0 n 0
  have z1 := @ww_s0 n 1
  have z2 := @ww_s0 n 2
  rw [ww_ks]
  rcases h with ⟨rfl, rfl⟩ | ⟨rfl, rfl⟩ | ⟨rfl, rfl⟩
  · rw [e0, e3, z0 (by omega), z1 (by omega), z2 (by omega)]
  · rw [e1, e3, z1 (by omega), z2 (by omega)]; omega
  · rw [e2, e3, z2 (by omega)]; omega
/-- the entries noted on the way spell the path p -/
def li_P (sl pa : Nat → Int32) (j p : Nat) : Prop := p < 81 ^ j ∧ ∀ i, i < j → ∃ e, pa i = nI e ∧ e < 488 ∧ 9 ≤ cc_s sl e ∧ cc_s sl e = p / 81 ^ (j - 1 - i) % 81
theorem li_Pg {sl pa pa' : Nat → Int32} {j p : Nat} (h : li_P sl pa j p) (hp : ∀ i, i < j → pa' i = pa i) : li_P sl pa' j p := ⟨h.1, fun i hi => by rw [hp i hi]; exact h.2 i hi⟩
theorem li_Ps {sl pa : Nat → Int32} {j p e : Nat} (h : li_P sl pa j p) (h4 : e < 488) (h9 : 9 ≤ cc_s sl e) (h8 : cc_s sl e < 81) : li_P sl (upd pa j (nI e)) (j + 1) (81 * p + cc_s sl e) := by
  have hp := h.1
  refine ⟨by rw [Nat.pow_succ]; omega, fun i hi => ?_⟩
  by_cases q : i = j
  · subst q
    refine ⟨e, pk_us, h4, h9, ?_⟩
    have : i + 1 - 1 - i = 0 := by omega
    rw [this, Nat.pow_zero, Nat.div_one]
    omega
  · obtain ⟨e', a1, a2, a3, a4⟩ := h.2 i (by omega)
    refine ⟨e', by rw [pk_un q]; exact a1, a2, a3, ?_⟩
    have e2 : j + 1 - 1 - i = (j - 1 - i) + 1 := by omega
    rw [e2, Nat.pow_succ, Nat.mul_comm (81 ^ (j - 1 - i)) 81, ← Nat.div_div_eq_div_mul]
    have e3 : (81 * p + cc_s sl e) / 81 = p := by omega
    rw [e3]
    exact a4
theorem li_Pd {sl pa : Nat → Int32} {j p s : Nat} (h : li_P sl pa (j + 1) (81 * p + s)) (hs : s < 81) : li_P sl pa j p := by
  obtain ⟨h1, h2⟩ := h
  rw [Nat.pow_succ] at h1
  refine ⟨by omega, fun i hi => ?_⟩
  obtain ⟨e', a1, a2, a3, a4⟩ := h2 i (by omega)
  refine ⟨e', a1, a2, a3, ?_⟩
  have e2 : j + 1 - 1 - i = (j - 1 - i) + 1 := by omega
  rw [e2, Nat.pow_succ, Nat.mul_comm (81 ^ (j - 1 - i)) 81, ← Nat.div_div_eq_div_mul] at a4
  have e3 : (81 * p + s) / 81 = p := by omega
  rw [e3] at a4
  exact a4
/-- the word of a spelled path -/
theorem li_Pw {sl pa : Nat → Int32} {j n : Nat} (hn : ww_w n) (hj : j < 3) (h : li_P sl pa (j + 1) (ww_p n)) : ww_l n = j + 1 ∧ ∀ i, i < j + 1 → ∃ e, pa i = nI e ∧ e < 488 ∧ cc_s sl e = ww_s n i := by
  obtain ⟨h1, h2⟩ := h
  have a0 := ww_s81 n 0
  have a1 := ww_s81 n 1
  have a2 := ww_s81 n 2
  have b0 := @ww_sb n 0
  have b1 := @ww_sb n 1
  have b2 := @ww_sb n 2
  have e1 := ww_pt1 n
  have e2 := ww_pt2 n
  have e3 := ww_pt3 n
  obtain ⟨x0, x1, x2, x3, x4⟩ := h2 0 (by omega)
  unfold ww_p at *
  have hl := ww_lc hn
  have c : j = 0 ∨ j = 1 ∨ j = 2 := by omega
  have key : ww_l n = j + 1 := by
    rcases c with rfl | rfl | rfl
    · rcases hl with g | g | g
      · exact g
      · rw [g, e2] at h1; rw [g] at b0; simp only [Nat.reduceAdd, Nat.reducePow] at h1; omega
      · rw [g, e3] at h1; rw [g] at b0; simp only [Nat.reduceAdd, Nat.reducePow] at h1; omega
    · rcases hl with g | g | g
      · rw [g, e1] at x4; simp only [Nat.reduceAdd, Nat.reduceSub, Nat.reducePow] at x4; omega
      · exact g
      · rw [g, e3] at h1; rw [g] at b0; simp only [Nat.reduceAdd, Nat.reducePow] at h1; omega
    · rcases hl with g | g | g
      · rw [g, e1] at x4; simp only [Nat.reduceAdd, Nat.reduceSub, Nat.reducePow] at x4; omega
      · rw [g, e2] at x4; simp only [Nat.reduceAdd, Nat.reduceSub, Nat.reducePow] at x4; omega
      · exact g
  refine ⟨key, fun i hi => ?_⟩
  obtain ⟨y0, y1, y2, y3, y4⟩ := h2 i hi
  refine ⟨y0, y1, y2, ?_⟩
  rw [y4, key]
  rcases c with rfl | rfl | rfl
  · have : i = 0 := by omega
    subst this
    rw [show (0 + 1 : Nat) = 1 from rfl, e1]; simp only [Nat.reduceSub, Nat.reducePow]; omega
  · have : i = 0 ∨ i = 1 := by omega
    rcases this with rfl | rfl
    · rw [show (1 + 1 : Nat) = 2 from rfl, e2]; simp only [Nat.reduceSub, Nat.reducePow]; omega
    · rw [show (1 + 1 : Nat) = 2 from rfl, e2]; simp only [Nat.reduceSub, Nat.reducePow]; omega
  · have : i = 0 ∨ i = 1 ∨ i = 2 := by omega
    rcases this with rfl | rfl | rfl
    · rw [show (2 + 1 : Nat) = 3 from rfl, e3]; simp only [Nat.reduceSub, Nat.reducePow]; omega
    · rw [show (2 + 1 : Nat) = 3 from rfl, e3]; simp only [Nat.reduceSub, Nat.reducePow]; omega
    · rw [show (2 + 1 : Nat) = 3 from rfl, e3]; simp only [Nat.reduceSub, Nat.reducePow]; omega
theorem li_dq {sl pa : Nat → Int32} {j n q j1 : Nat} (hn : ww_w n) (hj : j < 3) (hj1 : j1 < 3) (hP : li_P sl pa (j + 1) q) (h3 : ww_p n / 81 ^ j1 = q) : ww_pt n (j + 1) = q := by
  have x1 := ww_pt1 n
  have x2 := ww_pt2 n
  have x3 := ww_pt3 n
  have s0 := ww_s81 n 0
  have s1 := ww_s81 n 1
  have s2 := ww_s81 n 2
  have b0 := @ww_sb n 0
  have b1 := @ww_sb n 1
  have b2 := @ww_sb n 2
  have z1 := @ww_s0 n 1
  have z2 := @ww_s0 n 2
  obtain ⟨P1, P2⟩ := hP
  obtain ⟨y0, _, _, y3, y4⟩ := P2 0 (by omega)
  clear P2
  unfold ww_p at h3
  have jc : j1 = 0 ∨ j1 = 1 ∨ j1 = 2 := by omega
  have jj : j = 0 ∨ j = 1 ∨ j = 2 := by omega
  rcases ww_lc hn with g1 | g1 | g1 <;> rw [g1] at h3 b0 b1 b2 z1 z2 <;> rcases jc with rfl | rfl | rfl <;> rcases jj with rfl | rfl | rfl <;> simp only [Nat.reduceAdd, Nat.reduceSub, Nat.reducePow, Nat.div_one] at h3 P1 y4 ⊢ <;> first | (exfalso; omega) | omega
/-- a longer word lies beyond -/
theorem li_pzc {j U n : Nat} (h : li_U j U) (hn : ww_w n) (hk : ww_k n = ww_pt n (j + 1) * U) : ww_l n ≤ j + 1 := by
  have l3 := ww_l3 hn
  have e1 := ww_pt1 n
  have e2 := ww_pt2 n
  have e3 := ww_pt3 n
  have b1 := @ww_sb n 1
  have b2 := @ww_sb n 2
  rw [ww_ks] at hk
  rcases Nat.lt_or_ge (j + 1) (ww_l n) with q | q
  · exfalso
    rcases h with ⟨rfl, rfl⟩ | ⟨rfl, rfl⟩ | ⟨rfl, rfl⟩
    · rw [show (0 + 1 : Nat) = 1 from rfl, e1, e3] at hk
      have := b1 q
      omega
    · rw [show (1 + 1 : Nat) = 2 from rfl, e2, e3] at hk
      have := b2 q
      omega
    · omega
  · exact q
end
section
/-! the listing, by layers, over an interface of four steps -/
/-- the steps of list's loop -/
def li_V (o f sl v h w : Nat → Int32) (V : Int32 → Nat → Int32 → (Nat → Int32) → (Nat → Int32) → (Nat → Int32) → (Nat → Int32) → (Nat → Int32) → Prop) : Prop :=
  (∀ (j t : Nat) (fl : Int32) (pa wa va nd sp : Nat → Int32), j < 3 → t < 400 → nd j = -1 → V (nI j + (-1)) (t + 1) fl pa wa va nd sp → V (nI j) t fl pa wa va nd sp) ∧
  (∀ (j t b : Nat) (fl : Int32) (pa wa va nd sp : Nat → Int32), j < 3 → t < 400 → b < 122 → o b ∈ oo_all → nd j = nI b → sp j = nI (oo_z (o b)) → V (nI j) (t + 1) fl pa wa va (upd nd j (f b)) (upd sp j 0) → V (nI j) t fl pa wa va nd sp) ∧
  (∀ (j t b k : Nat) (fl : Int32) (pa wa va nd sp : Nat → Int32), j < 3 → t < 400 → b < 122 → o b ∈ oo_all → nd j = nI b → sp j = nI k → k < oo_z (o b) → h (4 * b + oo_c (o b) k) = 0 → (w (4 * b + oo_c (o b) k) = -1 → V (nI j) (t + 1) fl (upd pa j (nI (4 * b + oo_c (o b) k))) wa va nd (upd sp j (nI (k + 1)))) → (¬ w (4 * b + oo_c (o b) k) = -1 → j + 1 < 3 ∧ V (nI (j + 1)) (t + 1) fl (upd pa j (nI (4 * b + oo_c (o b) k))) wa va (upd nd (j + 1) (w (4 * b + oo_c (o b) k))) (upd (upd sp j (nI (k + 1))) (j + 1) 0)) → V (nI j) t fl pa wa va nd sp) ∧
  (∀ (j t b k m n : Nat) (pa wa va nd sp : Nat → Int32), j < 3 → t < 400 → b < 122 → o b ∈ oo_all → nd j = nI b → sp j = nI k → k < oo_z (o b) → h (4 * b + oo_c (o b) k) = 1 → m < 40 → ww_w n → ww_l n = j + 1 → (∀ i, i < j + 1 → ∃ e, upd pa j (nI (4 * b + oo_c (o b) k)) i = nI e ∧ e < 488 ∧ cc_s sl e = ww_s n i) → (w (4 * b + oo_c (o b) k) = -1 → V (nI j) (t + 1) (nI (m + 1)) (upd pa j (nI (4 * b + oo_c (o b) k))) (upd wa m (nI n)) (upd va m (v (4 * b + oo_c (o b) k))) nd (upd sp j (nI (k + 1)))) → (¬ w (4 * b + oo_c (o b) k) = -1 → j + 1 < 3 ∧ V (nI (j + 1)) (t + 1) (nI (m + 1)) (upd pa j (nI (4 * b + oo_c (o b) k))) (upd wa m (nI n)) (upd va m (v (4 * b + oo_c (o b) k))) (upd nd (j + 1) (w (4 * b + oo_c (o b) k))) (upd (upd sp j (nI (k + 1))) (j + 1) 0)) → V (nI j) t (nI m) pa wa va nd sp)
/-- a layer's rest is listed within c steps a word, and one or two -/
def li_L (C : Nat → List Nat) (K : List (Nat × Int32)) (o sl : Nat → Int32) (V : Int32 → Nat → Int32 → (Nat → Int32) → (Nat → Int32) → (Nat → Int32) → (Nat → Int32) → (Nat → Int32) → Prop) (j U c : Nat) : Prop :=
  ∀ (z p k g t : Nat) (L A : List Nat) (pa wa va nd sp : Nat → Int32), (cc_E o L).length + L.length = z + k → C p = A ++ L → li_P sl pa j p → nd j = cc_h L → sp j = nI k → (∀ b B, L = b :: B → k ≤ oo_z (o b)) →
  (∀ a, a ∈ K → g ≤ ww_k a.1 → ww_pt a.1 j = p → ∃ e, e ∈ (cc_E o L).drop k ∧ ww_pt a.1 (j + 1) = 81 * p + cc_s sl e) → (∀ e, e ∈ (cc_E o L).drop k → g ≤ (81 * p + cc_s sl e) * U) → p * (81 * U) ≤ g → g ≤ p * (81 * U) + 81 * U →
  kk_H wa va (kk_b K g) → t + 1 + c * ((kk_b K (p * (81 * U) + 81 * U)).length - (kk_b K g).length) + (if k = 0 then 0 else 1) ≤ 400 →
  (∀ (t' : Nat) (pa' wa' va' nd' sp' : Nat → Int32), t' ≤ t + 1 + c * ((kk_b K (p * (81 * U) + 81 * U)).length - (kk_b K g).length) + (if k = 0 then 0 else 1) → li_P sl pa' j p → (∀ i, i < j → nd' i = nd i ∧ sp' i = sp i) → kk_H wa' va' (kk_b K (p * (81 * U) + 81 * U)) → V (nI j + (-1)) t' (nI (kk_b K (p * (81 * U) + 81 * U)).length) pa' wa' va' nd' sp') →
  V (nI j) t (nI (kk_b K g).length) pa wa va nd sp
section
variable {C : Nat → List Nat} {K : List (Nat × Int32)} {top fc : Int32} {o f sl v h w fr : Nat → Int32} {V : Int32 → Nat → Int32 → (Nat → Int32) → (Nat → Int32) → (Nat → Int32) → (Nat → Int32) → (Nat → Int32) → Prop}
/-- words in a layer come through its entries -/
theorem li_Q (I : ti_I 0 6561 C K top fc o f sl v h w fr) (hS : kk_S K) {j U q : Nat} (hU : li_U j U) : ∀ a, a ∈ K → q * (81 * U) + 1 ≤ ww_k a.1 → ww_pt a.1 j = q → ∃ e, e ∈ cc_E o (C q) ∧ ww_pt a.1 (j + 1) = 81 * q + cc_s sl e := by
  intro a ha h1 h2
  have hl : j < ww_l a.1 := by
    rcases Nat.lt_or_ge j (ww_l a.1) with z | z
    · exact z
    · have := li_pz0 hU z
      rw [h2] at this
      omega
  have l3 := ww_l3 (hS.1 a ha)
  obtain ⟨e, he, a1, _⟩ := I.2.2.2.2.2.2.2.2.2.2.2.1 _ ha
  have e2 : ww_p a.1 = ww_pt a.1 (j + (ww_l a.1 - j - 1) + 1) := by unfold ww_p; congr 1; omega
  obtain ⟨e', he', hs'⟩ := ti_anc I (n := a.1) (j := j) (ww_l a.1 - j - 1) (by omega) ⟨e, by rw [← e2]; exact ⟨he, a1⟩⟩
  obtain ⟨d1, d2⟩ := ww_ptd a.1 j
  rw [d1, h2] at he'
  refine ⟨e', he', ?_⟩
  omega
theorem li_step (I : ti_I 0 6561 C K top fc o f sl v h w fr) (hS : kk_S K) (hV : li_V o f sl v h w V) {j U c : Nat} (hU : li_U j U) (hsub : (j = 2 ∧ 2 ≤ c) ∨ (j < 2 ∧ ∃ U' c', li_U (j + 1) U' ∧ U = 81 * U' ∧ c' + 3 ≤ c ∧ li_L C K o sl V (j + 1) U' c')) : li_L C K o sl V j U c := by
  have j3 : j < 3 := by rcases hU with ⟨z, _⟩ | ⟨z, _⟩ | ⟨z, _⟩ <;> omega
  have U0 : 0 < U := by rcases hU with ⟨_, z⟩ | ⟨_, z⟩ | ⟨_, z⟩ <;> omega
  have c2 : 2 ≤ c := by rcases hsub with ⟨_, z⟩ | ⟨_, _, _, _, _, z, _⟩ <;> omega
  obtain ⟨V0, V1, V2, V3⟩ := hV
  have I' := I
  obtain ⟨i1, i2, i3, i4, i5, i6, i7, i8, i9, i10, i11, i12, i13⟩ := I'
  intro z
  induction z with
  | zero =>
    intro p k g t L A pa wa va nd sp hz hC hP hnd hsp hk hQ hR hg0 hg1 hH ht hK
    have L0 : L = [] := List.eq_nil_of_length_eq_zero (by
      rcases Nat.eq_zero_or_pos L.length with q | q
      · exact q
      · exfalso
        obtain ⟨b, B, e⟩ : ∃ b B, L = b :: B := by
          cases L with
          | nil => exact absurd q (Nat.lt_irrefl 0)
          | cons b B => exact ⟨b, B, rfl⟩
        have := hk b B e
        rw [e, cc_Ec, List.length_append, List.length_cons, cc_len] at hz
        omega)
    subst L0
    refine V0 j t _ pa wa va nd sp j3 (by omega) hnd ?_
    have e1 : kk_b K g = kk_b K (p * (81 * U) + 81 * U) := kk_beq hS.2.1 hg1 (fun a ha h1 h2 => by
      have := li_pt (n := a.1) hU
      have h3 : ww_pt a.1 j = p := by
        generalize ww_pt a.1 j = m at *
        rcases hU with ⟨_, rfl⟩ | ⟨_, rfl⟩ | ⟨_, rfl⟩ <;> omega
      obtain ⟨e, he, _⟩ := hQ a ha h1 h3
      have he : e ∈ ([] : List Nat).drop k := he
      rw [List.drop_nil] at he
      cases he)
    rw [e1] at hH ⊢
    exact hK (t + 1) pa wa va nd sp (by omega) hP (fun i _ => ⟨rfl, rfl⟩) hH
  | succ z ih =>
    intro p k g t L A pa wa va nd sp hz hC hP hnd hsp hk hQ hR hg0 hg1 hH ht hK
    cases L with
    | nil =>
      refine V0 j t _ pa wa va nd sp j3 (by omega) hnd ?_
      have e1 : kk_b K g = kk_b K (p * (81 * U) + 81 * U) := kk_beq hS.2.1 hg1 (fun a ha h1 h2 => by
        have := li_pt (n := a.1) hU
        have h3 : ww_pt a.1 j = p := by
          generalize ww_pt a.1 j = m at *
          rcases hU with ⟨_, rfl⟩ | ⟨_, rfl⟩ | ⟨_, rfl⟩ <;> omega
        obtain ⟨e, he, _⟩ := hQ a ha h1 h3
        have he : e ∈ ([] : List Nat).drop k := he
        rw [List.drop_nil] at he
        cases he)
      rw [e1] at hH ⊢
      exact hK (t + 1) pa wa va nd sp (by omega) hP (fun i _ => ⟨rfl, rfl⟩) hH
    | cons b B =>
      have hbp : b ∈ C p := by rw [hC]; exact List.mem_append.mpr (Or.inr List.mem_cons_self)
      have p6 := (i8 p (fun q => by rw [q] at hbp; cases hbp)).1
      obtain ⟨hb1, hb2, hb3⟩ := i3 p b hbp
      have hbz := hb3 (by omega)
      have hkb := hk b B rfl
      have z4 := (oo_a _ hb2).1
      rcases Nat.lt_or_ge k (oo_z (o b)) with q | q
      · -- an entry
        have hz' : (cc_E o (b :: B)).length + (b :: B).length = z + (k + 1) := by omega
        have hdrop : (cc_E o (b :: B)).drop k = (4 * b + oo_c (o b) k) :: (cc_E o (b :: B)).drop (k + 1) := by
          have hl : k < (cc_E o (b :: B)).length := by rw [cc_Ec, List.length_append, cc_len]; omega
          rw [List.drop_eq_getElem_cons hl]
          congr 1
          have e1 : (cc_E o (b :: B))[k]? = (cc_e o b)[k]? := by rw [cc_Ec, List.getElem?_append_left (by rw [cc_len]; exact q)]
          have e2 := List.getElem?_eq_getElem hl
          rw [e1] at e2
          exact (cc_ei e2).2
        have heC : 4 * b + oo_c (o b) k ∈ cc_E o (C p) := cc_mE.mpr ⟨b, hbp, cc_me.mpr ⟨k, q, rfl⟩⟩
        have hpw : (cc_E o (b :: B)).Pairwise (fun a c => cc_s sl a < cc_s sl c) := by
          have := i4 p
          rw [hC, cc_Ea] at this
          exact (List.pairwise_append.mp this).2.1
        have hpd : ((cc_E o (b :: B)).drop k).Pairwise (fun a c => cc_s sl a < cc_s sl c) := hpw.sublist (List.drop_sublist _ _)
        rw [hdrop] at hpd hQ hR
        have hgt := (List.pairwise_cons.mp hpd).1
        obtain ⟨h9, hw, hne⟩ := i5 p _ heC
        have h81 := (i6 (4 * b + oo_c (o b) k)).1
        have h488 := (ti_E4 I heC).2.2
        generalize he0 : 4 * b + oo_c (o b) k = e0 at *
        have hP' := li_Ps hP h488 h9 h81
        have hge := hR e0 List.mem_cons_self
        generalize hq0 : 81 * p + cc_s sl e0 = q0 at *
        have q0b : p * (81 * U) ≤ q0 * U ∧ q0 * U + U ≤ p * (81 * U) + 81 * U := by
          rw [← hq0]
          rcases hU with ⟨_, rfl⟩ | ⟨_, rfl⟩ | ⟨_, rfl⟩ <;> omega
        -- nothing of K between g and this entry's key
        have eg : kk_b K g = kk_b K (q0 * U) := kk_beq hS.2.1 hge (fun a ha h1 h2 => by
          have := li_pt (n := a.1) hU
          have h3 : ww_pt a.1 j = p := by
            generalize ww_pt a.1 j = m at *
            rcases hU with ⟨_, rfl⟩ | ⟨_, rfl⟩ | ⟨_, rfl⟩ <;> omega
          obtain ⟨e, he, h4⟩ := hQ a ha h1 h3
          have h5 : cc_s sl e0 ≤ cc_s sl e := by
            rcases List.mem_cons.mp he with y | y
            · rw [y]; exact Nat.le_refl _
            · exact Nat.le_of_lt (hgt e y)
          have h6 : q0 ≤ ww_pt a.1 (j + 1) := by omega
          have h7 := Nat.mul_le_mul_right U h6
          omega)
        -- a word lies at or below this entry
        have hout : (kk_b K (q0 * U)).length + 1 ≤ (kk_b K (q0 * U + U)).length := by
          obtain ⟨t1, j1, h1, h2, h3⟩ := ti_desc I heC
          rcases h1 with h1 | ⟨a, ha, h1⟩
          · rw [h1, Nat.zero_div] at h3
            omega
          · have hk1 : ww_pt a.1 (j + 1) = q0 := li_dq (hS.1 a ha) j3 h2 hP' (by rw [h1, ← hq0]; exact h3)
            have := li_pt (n := a.1) hU
            rw [hk1] at this
            exact kk_blt hS ha this.1 this.2.1
        have hn1 : (kk_b K (q0 * U + U)).length ≤ (kk_b K (p * (81 * U) + 81 * U)).length := kk_ble q0b.2
        have hcm : c * ((kk_b K (p * (81 * U) + 81 * U)).length - (kk_b K (q0 * U)).length) = c * ((kk_b K (p * (81 * U) + 81 * U)).length - (kk_b K (q0 * U + U)).length) + c * ((kk_b K (q0 * U + U)).length - (kk_b K (q0 * U)).length) := by
          rw [← Nat.mul_add]; congr 1; omega
        rw [eg] at hH ht hK ⊢
        have fin : ∀ (t' : Nat) (pa' wa' va' nd' sp' : Nat → Int32), t' + 1 ≤ t + c * ((kk_b K (q0 * U + U)).length - (kk_b K (q0 * U)).length) → li_P sl pa' (j + 1) q0 → nd' j = cc_h (b :: B) → sp' j = nI (k + 1) → (∀ i, i < j → nd' i = nd i ∧ sp' i = sp i) → kk_H wa' va' (kk_b K (q0 * U + U)) → V (nI j) t' (nI (kk_b K (q0 * U + U)).length) pa' wa' va' nd' sp' := by
          intro t' pa' wa' va' nd' sp' ht' hP2 hnd2 hsp2 hlow hH2
          rw [← hq0] at hP2
          refine ih p (k + 1) (q0 * U + U) t' (b :: B) A pa' wa' va' nd' sp' hz' hC (li_Pd hP2 h81) hnd2 hsp2 (fun b' B' e' => ?_) (fun a ha h1 h2 => ?_) (fun e he => ?_) (by omega) q0b.2 hH2 ?_ (fun t2 pa2 wa2 va2 nd2 sp2 ht2 hP3 hlow2 hH3 => ?_)
          · rw [← (List.cons.inj e').1]; omega
          · obtain ⟨e, he, h4⟩ := hQ a ha (by omega) h2
            rcases List.mem_cons.mp he with y | y
            · exfalso
              rw [y, hq0] at h4
              have := li_pt (n := a.1) hU
              rw [h4] at this
              omega
            · exact ⟨e, y, h4⟩
          · have h5 := hgt e he
            have h6 : q0 + 1 ≤ 81 * p + cc_s sl e := by omega
            have h7 := Nat.mul_le_mul_right U h6
            rw [Nat.add_mul, Nat.one_mul] at h7
            exact h7
          · rw [if_neg (by omega)]
            by_cases k0 : k = 0
            · rw [if_pos k0] at ht; omega
            · rw [if_neg k0] at ht; omega
          · refine hK t2 pa2 wa2 va2 nd2 sp2 ?_ hP3 (fun i hi => ?_) hH3
            · rw [if_neg (by omega)] at ht2
              by_cases k0 : k = 0
              · rw [if_pos k0]; omega
              · rw [if_neg k0]; omega
            · rw [(hlow2 i hi).1, (hlow2 i hi).2]
              exact hlow i hi
        have hCq : ∀ d, d ∈ C q0 → d < 122 := fun d hd => (i3 q0 d hd).1
        have hcc : 2 * ((kk_b K (q0 * U + U)).length - (kk_b K (q0 * U)).length) ≤ c * ((kk_b K (q0 * U + U)).length - (kk_b K (q0 * U)).length) := Nat.mul_le_mul_right _ c2
        have G1 : ∀ (wa' va' : Nat → Int32), kk_H wa' va' (kk_b K (q0 * U + 1)) → w e0 = -1 → V (nI j) (t + 1) (nI (kk_b K (q0 * U + 1)).length) (upd pa j (nI e0)) wa' va' nd (upd sp j (nI (k + 1))) := by
          intro wa' va' hH' hwe
          have hCn : C q0 = [] := (cc_hn hCq).mp (by rw [← hw]; exact hwe)
          have e2 : kk_b K (q0 * U + 1) = kk_b K (q0 * U + U) := kk_beq hS.2.1 (by omega) (fun a ha h1 h2 => by
            rcases hsub with ⟨y1, _⟩ | ⟨y1, U', c', y2, y3, _⟩
            · rcases hU with ⟨x1, x2⟩ | ⟨x1, x2⟩ | ⟨x1, x2⟩
              · omega
              · omega
              · subst x2; omega
            · have hpe := li_pe hU (n := a.1) (q := q0) (by omega) h2
              obtain ⟨e, he, _⟩ := li_Q I hS y2 (q := q0) a ha (by rw [← y3]; exact h1) hpe
              rw [hCn] at he
              cases he)
          rw [e2] at hH' ⊢
          refine fin (t + 1) _ wa' va' nd _ (by omega) hP' hnd pk_us (fun i hi => ⟨rfl, pk_un (by omega)⟩) hH'
        have G2 : ∀ (wa' va' : Nat → Int32), kk_H wa' va' (kk_b K (q0 * U + 1)) → ¬ w e0 = -1 → j + 1 < 3 ∧ V (nI (j + 1)) (t + 1) (nI (kk_b K (q0 * U + 1)).length) (upd pa j (nI e0)) wa' va' (upd nd (j + 1) (w e0)) (upd (upd sp j (nI (k + 1))) (j + 1) 0) := by
          intro wa' va' hH' hwe
          have hCn : C q0 ≠ [] := fun y => hwe (by rw [hw, y]; rfl)
          have q6 := (i8 q0 hCn).1
          rcases hsub with ⟨y1, _⟩ | ⟨y1, U', c', y2, y3, y4, y5⟩
          · exfalso
            subst y1
            obtain ⟨x0, _, _, x3, x4⟩ := hP'.2 0 (by omega)
            simp only [Nat.reduceAdd, Nat.reduceSub, Nat.reducePow] at x4
            omega
          · refine ⟨by omega, ?_⟩
            have hb1 : (kk_b K (q0 * U)).length ≤ (kk_b K (q0 * U + 1)).length := kk_ble (by omega)
            have hc1 : c' * ((kk_b K (q0 * U + U)).length - (kk_b K (q0 * U + 1)).length) ≤ c' * ((kk_b K (q0 * U + U)).length - (kk_b K (q0 * U)).length) := Nat.mul_le_mul_left _ (by omega)
            have hc3 : (c' + 3) * ((kk_b K (q0 * U + U)).length - (kk_b K (q0 * U)).length) ≤ c * ((kk_b K (q0 * U + U)).length - (kk_b K (q0 * U)).length) := Nat.mul_le_mul_right _ y4
            rw [Nat.add_mul] at hc3
            have key := y5 ((cc_E o (C q0)).length + (C q0).length) q0 0 (q0 * U + 1) (t + 1) (C q0) [] (upd pa j (nI e0)) wa' va' (upd nd (j + 1) (w e0)) (upd (upd sp j (nI (k + 1))) (j + 1) 0)
            rw [← y3] at key
            refine key (by omega) rfl hP' (by rw [pk_us]; exact hw) pk_us (fun _ _ _ => Nat.zero_le _) (fun a ha h1 h2 => ?_) (fun e he => ?_) (by omega) (by omega) hH' ?_ (fun t2 pa2 wa2 va2 nd2 sp2 ht2 hP3 hlow2 hH3 => ?_)
            · rw [List.drop_zero]
              exact li_Q I hS y2 (q := q0) a ha (by rw [← y3]; exact h1) h2
            · rw [List.drop_zero] at he
              have h9' := (i5 q0 e he).1
              rw [y3]
              rcases y2 with ⟨_, rfl⟩ | ⟨_, rfl⟩ | ⟨_, rfl⟩ <;> omega
            · rw [if_pos rfl]
              by_cases k0 : k = 0
              · rw [if_pos k0] at ht; omega
              · rw [if_neg k0] at ht; omega
            · rw [if_pos rfl] at ht2
              rw [pk_m1]
              refine fin t2 pa2 wa2 va2 nd2 sp2 (by omega) hP3 ?_ ?_ (fun i hi => ?_) hH3
              · rw [(hlow2 j (by omega)).1, pk_un (by omega)]; exact hnd
              · rw [(hlow2 j (by omega)).2, pk_un (by omega), pk_us]
              · rw [(hlow2 i (by omega)).1, (hlow2 i (by omega)).2, pk_un (by omega), pk_un (by omega), pk_un (by omega)]
                exact ⟨rfl, rfl⟩
        have t400 : t < 400 := by omega
        rcases i7 e0 with hh | hh
        · have e2 : kk_b K (q0 * U) = kk_b K (q0 * U + 1) := kk_beq hS.2.1 (by omega) (fun a ha h1 h2 => by
            have ek : ww_k a.1 = q0 * U := by omega
            have hpe := li_pe hU (n := a.1) (q := q0) (by omega) (by omega)
            have hl1 := li_pzc hU (hS.1 a ha) (by rw [hpe]; exact ek)
            obtain ⟨d1, d2⟩ := ww_ptd a.1 j
            rw [hpe] at d1 d2
            have hl2 : j < ww_l a.1 := by
              rcases Nat.lt_or_ge j (ww_l a.1) with y | y
              · exact y
              · rw [ww_s0 y] at d2
                omega
            have hl3 : ww_l a.1 = j + 1 := by omega
            have hpp : ww_p a.1 = q0 := by unfold ww_p; rw [hl3]; exact hpe
            obtain ⟨e', he', a1, a2, _⟩ := i12 a ha
            rw [hpp] at he' a1
            have : e' = e0 := ti_uq I he' heC (by omega)
            rw [this, hh] at a2
            exact absurd a2 (by decide))
          rw [e2] at hH ⊢
          refine V2 j t b k _ pa wa va nd sp j3 t400 hb1 hb2 hnd hsp q (by rw [he0]; exact hh) ?_ ?_
          · rw [he0]; exact G1 wa va hH
          · rw [he0]; exact G2 wa va hH
        · obtain ⟨a, ha, hp1, hv1⟩ := i13 p e0 heC hh
          rw [hq0] at hp1
          obtain ⟨hl1, hl2⟩ := li_Pw (hS.1 a ha) j3 (by rw [hp1]; exact hP')
          have ek : ww_k a.1 = q0 * U := by
            rw [li_pz hU (by omega)]
            have : ww_pt a.1 (j + 1) = q0 := by rw [← hl1]; exact hp1
            rw [this]
          have e2 := kk_bsucc hS ha ek
          have e3 : (kk_b K (q0 * U + 1)).length = (kk_b K (q0 * U)).length + 1 := by rw [e2, List.length_append, List.length_singleton]
          have h40 : (kk_b K (q0 * U + 1)).length ≤ K.length := kk_bK
          have hS40 := hS.2.2
          have hH2 : kk_H (upd wa (kk_b K (q0 * U)).length (nI a.1)) (upd va (kk_b K (q0 * U)).length (v e0)) (kk_b K (q0 * U + 1)) := by
            rw [e2, hv1]
            exact kk_happ hH
          have g1 := G1 _ _ hH2
          have g2 := G2 _ _ hH2
          rw [e3] at g1 g2
          refine V3 j t b k (kk_b K (q0 * U)).length a.1 pa wa va nd sp j3 t400 hb1 hb2 hnd hsp q (by rw [he0]; exact hh) (by omega) (hS.1 a ha) hl1 (by rw [he0]; exact hl2) ?_ ?_
          · rw [he0]; exact g1
          · rw [he0]; exact g2
      · have hkz : k = oo_z (o b) := by omega
        have hkp := i2 p
        rw [hC] at hkp
        have fb := (cc_kapp hkp).1
        have hdr : (cc_E o (b :: B)).drop k = (cc_E o B).drop 0 := by
          rw [cc_Ec, List.drop_zero]
          exact List.drop_left' (by rw [cc_len, hkz])
        rw [hdr] at hQ hR
        rw [if_neg (by omega)] at ht hK
        refine V1 j t b _ pa wa va nd sp j3 (by omega) hb1 hb2 hnd (by rw [hsp, hkz]) ?_
        refine ih p 0 g (t + 1) B (A ++ [b]) pa wa va _ _ ?_ (by rw [hC, List.append_assoc]; rfl) hP (by rw [pk_us]; exact fb) pk_us (fun _ _ _ => Nat.zero_le _) hQ hR hg0 hg1 hH (by rw [if_pos rfl]; omega) (fun t2 pa2 wa2 va2 nd2 sp2 ht2 hP3 hlow2 hH3 => ?_)
        · rw [cc_Ec, List.length_append, List.length_cons, cc_len] at hz
          omega
        · rw [if_pos rfl] at ht2
          refine hK t2 pa2 wa2 va2 nd2 sp2 (by omega) hP3 (fun i hi => ?_) hH3
          rw [(hlow2 i hi).1, (hlow2 i hi).2, pk_un (by omega), pk_un (by omega)]
          exact ⟨rfl, rfl⟩
end
end
section
/-! wordOf and list -/
section
variable {f_top f_freeCount f_count f_listed f_current : Int32} {a_orders a_follower a_slices a_values a_held a_below a_freeNodes a_path a_wordAt a_valueAt a_node a_spot : Nat → Int32}
theorem xl_wo4 {post : Int32 → Prop} {n j : Nat} (hn : ww_w n) (hj : ww_l n = j + 1) (hG : cc_G a_slices) (hp : ∀ i, i < j + 1 → ∃ e, a_path i = nI e ∧ e < 488 ∧ cc_s a_slices e = ww_s n i) (h : post (nI n)) : ∀ d i : Nat, i + d = j + 1 → wX_wordOf_4 post (nI j) f_top f_freeCount f_count f_listed f_current a_orders a_follower a_slices a_values a_held a_below a_freeNodes a_path a_wordAt a_valueAt a_node a_spot (d + 1) (nI (ww_f n i)) (nI i) := by
  have l3 := ww_l3 hn
  intro d
  induction d with
  | zero =>
    intro i hi
    have ei : i = j + 1 := by omega
    subst ei
    have e1 := ww_fn hn
    rw [hj] at e1
    rw [e1]
    exact br_t (nI_lt (by omega) (by omega)) h
  | succ d ih =>
    intro i hi
    obtain ⟨e, ep, e4, es⟩ := hp i (by omega)
    have hs := ww_sb (n := n) (j := i) (by omega)
    have hx := ih (i + 1) (by omega)
    have ef : ww_f n (i + 1) = ww_u (ww_f n i) (ww_s n i) := rfl
    rw [ef] at hx
    have ge := (hG e).2
    rw [es] at ge
    rw [wX_wordOf_4]
    refine br_f (nI_nlt (by omega) (by omega)) ⟨vp_in_nI (by omega) (by decide), ?_⟩
    rw [nI_clamp (n := i) (by omega), ep, nI_clamp (n := e) (by omega), ge]
    generalize ww_s n i = s at *
    generalize ww_f n i = x at *
    have dv : nI s / 9 = nI (s / 9) := pk_div (d := 9) (by omega) (by decide) (by decide)
    have rm : nI s - nI s / 9 * 9 = nI (s % 9) := pk_rem (d := 9) (by omega) (by decide) (by decide)
    refine ⟨vp_in_nI e4 (by decide), nm_e ?_⟩
    rw [rm, dv]
    refine ⟨by decide, nm_r (e' := nI (8 * x + s / 9 - 1)) (by rw [xw_8m, nI_add, xw_s1 (by omega)]) ⟨by decide, ?_⟩⟩
    refine pk_le (s % 9) 0 (fun q => nm_r (nI_1 i) ?_) (fun q => ⟨by decide, nm_r (e' := nI (8 * (8 * x + s / 9 - 1) + s % 9 - 1)) (by rw [xw_8m, nI_add, xw_s1 (by omega)]) (nm_r (nI_1 i) ?_)⟩)
    · unfold ww_u at hx
      rw [if_neg (by omega)] at hx
      exact hx
    · unfold ww_u at hx
      rw [if_pos (by omega)] at hx
      exact hx
theorem xl_wordOf {post : Int32 → Prop} {n j : Nat} (hn : ww_w n) (hj : ww_l n = j + 1) (hG : cc_G a_slices) (hp : ∀ i, i < j + 1 → ∃ e, a_path i = nI e ∧ e < 488 ∧ cc_s a_slices e = ww_s n i) (h : post (nI n)) : wpX_wordOf post (f_top, f_freeCount, f_count, f_listed, f_current, a_orders, a_follower, a_slices, a_values, a_held, a_below, a_freeNodes, a_path, a_wordAt, a_valueAt, a_node, a_spot) (nI j) := by
  unfold wpX_wordOf
  dsimp only
  exact ⟨_, xl_wo4 hn hj hG hp h (j + 1) 0 (by omega)⟩
theorem xl_197 {post : SX → Prop} {J : Int32 → Int32 → Int32 → (Nat → Int32) → (Nat → Int32) → (Nat → Int32) → (Nat → Int32) → (Nat → Int32) → (Nat → Int32) → (Nat → Int32) → (Nat → Int32) → (Nat → Int32) → (Nat → Int32) → (Nat → Int32) → (Nat → Int32) → Prop} {j t e : Nat} (he : e < 488) (h1 : a_below e = -1 → J (nI j) (nI (t + 1)) f_listed a_orders a_follower a_slices a_values a_held a_below a_freeNodes a_path a_wordAt a_valueAt a_node a_spot) (h2 : ¬ a_below e = -1 → j + 1 < 3 ∧ J (nI (j + 1)) (nI (t + 1)) f_listed a_orders a_follower a_slices a_values a_held a_below a_freeNodes a_path a_wordAt a_valueAt (upd a_node (j + 1) (a_below e)) (upd a_spot (j + 1) 0)) : wX_list_197 post J (nI j) (nI t) (nI e) f_top f_freeCount f_count f_listed f_current a_orders a_follower a_slices a_values a_held a_below a_freeNodes a_path a_wordAt a_valueAt a_node a_spot := by
  unfold wX_list_197
  have ve : vp_in (nI e) 488 := vp_in_nI he (by decide)
  rw [nI_clamp (n := e) (by omega)]
  refine ⟨ve, br_c (fun q => nm_r (nI_1 t) (h1 q)) (fun q => ?_)⟩
  obtain ⟨h3, h4⟩ := h2 q
  have vj : vp_in (nI (j + 1)) 3 := vp_in_nI h3 (by decide)
  refine nm_r (nI_1 j) ⟨ve, vj, ?_⟩
  rw [nI_clamp (n := j + 1) (by omega)]
  exact nm_e ⟨vj, nm_e (nm_r (nI_1 t) h4)⟩
def xl_V (post : SX → Prop) (f_top f_freeCount f_count : Int32) (a_orders a_follower a_slices a_values a_held a_below a_freeNodes : Nat → Int32) (x1 : Int32) (t : Nat) (f_listed : Int32) (a_path a_wordAt a_valueAt a_node a_spot : Nat → Int32) : Prop := wX_list_51 post f_top f_freeCount f_count 1 (401 - t) x1 (nI t) f_listed a_orders a_follower a_slices a_values a_held a_below a_freeNodes a_path a_wordAt a_valueAt a_node a_spot
theorem xl_li {post : SX → Prop} (hG : cc_G a_slices) (h01 : ∀ e, a_held e = 0 ∨ a_held e = 1) : li_V a_orders a_follower a_slices a_values a_held a_below (xl_V post f_top f_freeCount f_count a_orders a_follower a_slices a_values a_held a_below a_freeNodes) := by
  have fu : ∀ t, t < 400 → ∃ n, 401 - t = n + 1 ∧ 401 - (t + 1) = n := fun t ht => ⟨400 - t, by omega, by omega⟩
  refine ⟨fun j t f_listed a_path a_wordAt a_valueAt a_node a_spot j3 t4 hnd hV => ?_, fun j t b f_listed a_path a_wordAt a_valueAt a_node a_spot j3 t4 hb ho hnd hsp hV => ?_, fun j t b k f_listed a_path a_wordAt a_valueAt a_node a_spot j3 t4 hb ho hnd hsp hk hh g1 g2 => ?_, fun j t b k m n a_path a_wordAt a_valueAt a_node a_spot j3 t4 hb ho hnd hsp hk hh hm hn hl hp g1 g2 => ?_⟩
  · obtain ⟨N, e1, e2⟩ := fu t t4
    unfold xl_V at *
    rw [e1, wX_list_51]
    rw [e2] at hV
    refine br_f (nI_ge (b := 400) t4 (by decide)) (br_f (nI_pos (by omega)) ⟨vp_in_nI j3 (by decide), ?_⟩)
    rw [nI_clamp (n := j) (by omega)]
    exact nm_r hnd (br_t rfl (nm_e (nm_r (nI_1 t) hV)))
  · obtain ⟨N, e1, e2⟩ := fu t t4
    unfold xl_V at *
    rw [e1, wX_list_51]
    rw [e2] at hV
    have vj : vp_in (nI j) 3 := vp_in_nI j3 (by decide)
    refine br_f (nI_ge (b := 400) t4 (by decide)) (br_f (nI_pos (by omega)) ⟨vj, ?_⟩)
    rw [nI_clamp (n := j) (by omega)]
    refine nm_r hnd (br_f (xt_n1 (by omega)) ⟨vj, cc_sizeOfNode hb ho (br_t hsp ⟨vp_in_nI hb (by decide), vj, ?_⟩)⟩)
    rw [nI_clamp (n := b) (by omega)]
    exact nm_e ⟨vj, nm_e (nm_r (nI_1 t) hV)⟩
  · obtain ⟨N, e1, e2⟩ := fu t t4
    unfold xl_V at *
    rw [e1, wX_list_51]
    rw [e2] at g1 g2
    have z4 := (oo_a _ ho).1
    have vj : vp_in (nI j) 3 := vp_in_nI j3 (by decide)
    have hin := cc_in hb ho (k := k) (by omega)
    refine br_f (nI_ge (b := 400) t4 (by decide)) (br_f (nI_pos (by omega)) ⟨vj, ?_⟩)
    rw [nI_clamp (n := j) (by omega)]
    refine nm_r hnd (br_f (xt_n1 (by omega)) ⟨vj, ?_⟩)
    rw [hsp]
    refine cc_sizeOfNode hb ho (br_f (fun q => ?_) ⟨vj, cc_entryAt hb ho (by omega) ⟨vj, vj, nm_r (by rw [nI_1]) ⟨vj, nm_e ⟨vp_in_nI hin (by decide), ?_⟩⟩⟩⟩)
    · have := (nI_eq (by omega) (by omega)).mp q
      omega
    · rw [nI_clamp (n := 4 * b + oo_c (a_orders b) k) (by omega)]
      exact br_t hh (xl_197 hin g1 g2)
  · obtain ⟨N, e1, e2⟩ := fu t t4
    unfold xl_V at *
    rw [e1, wX_list_51]
    rw [e2] at g1 g2
    have z4 := (oo_a _ ho).1
    have vj : vp_in (nI j) 3 := vp_in_nI j3 (by decide)
    have hin := cc_in hb ho (k := k) (by omega)
    have ve : vp_in (nI (4 * b + oo_c (a_orders b) k)) 488 := vp_in_nI hin (by decide)
    have vm : vp_in (nI m) 40 := vp_in_nI hm (by decide)
    refine br_f (nI_ge (b := 400) t4 (by decide)) (br_f (nI_pos (by omega)) ⟨vj, ?_⟩)
    rw [nI_clamp (n := j) (by omega)]
    refine nm_r hnd (br_f (xt_n1 (by omega)) ⟨vj, ?_⟩)
    rw [hsp]
    refine cc_sizeOfNode hb ho (br_f (fun q => ?_) ⟨vj, cc_entryAt hb ho (by omega) ⟨vj, vj, nm_r (by rw [nI_1]) ⟨vj, nm_e ⟨ve, ?_⟩⟩⟩⟩)
    · have := (nI_eq (by omega) (by omega)).mp q
      omega
    · rw [nI_clamp (n := 4 * b + oo_c (a_orders b) k) (by omega), nI_clamp (n := m) (by omega)]
      refine br_f (by rw [hh]; decide) (xl_wordOf hn hl hG hp ⟨vm, nm_e ⟨ve, vm, nm_e (nm_r (nI_1 m) (xl_197 hin g1 g2))⟩⟩)
end
/-- the component's state just listed -/
def xx_L (K : List (Nat × Int32)) (u : SX) : Prop := match u with
  | (f_top, f_freeCount, f_count, f_listed, f_current, a_orders, a_follower, a_slices, a_values, a_held, a_below, a_freeNodes, a_path, a_wordAt, a_valueAt, a_node, a_spot) => kk_S K ∧ f_count = nI K.length ∧ f_listed = nI K.length ∧ kk_H a_wordAt a_valueAt K ∧ ∃ C, ti_I 0 6561 C K f_top f_freeCount a_orders a_follower a_slices a_values a_held a_below a_freeNodes
theorem xx_LR {K : List (Nat × Int32)} {u : SX} (h : xx_L K u) : xx_R K u := by
  obtain ⟨f_top, f_freeCount, f_count, f_listed, f_current, a_orders, a_follower, a_slices, a_values, a_held, a_below, a_freeNodes, a_path, a_wordAt, a_valueAt, a_node, a_spot⟩ := u
  obtain ⟨h1, h2, h3, h4, h5⟩ := h
  exact ⟨h1, h2, Or.inr ⟨h3, h4⟩, h5⟩
theorem kk_pos {n : Nat} (h : ww_w n) : 1 ≤ ww_k n ∧ ww_k n < 531441 := by
  have a0 := ww_s81 n 0
  have a1 := ww_s81 n 1
  have a2 := ww_s81 n 2
  have := ww_sb (n := n) (j := 0) (by have := ww_l3 h; omega)
  unfold ww_k
  omega
theorem xx_list {post : SX → Prop} {K : List (Nat × Int32)} {u : SX} (hR : xx_R K u) (h : ∀ u', xx_L K u' → post u') : wpX_list post u := by
  obtain ⟨f_top, f_freeCount, f_count, f_listed, f_current, a_orders, a_follower, a_slices, a_values, a_held, a_below, a_freeNodes, a_path, a_wordAt, a_valueAt, a_node, a_spot⟩ := u
  obtain ⟨hS, hc, hl, C, I⟩ := hR
  have I' := I
  obtain ⟨i1, i2, i3, i4, i5, i6, i7, i8, i9, i10, i11, i12, i13⟩ := I'
  have hS40 := hS.2.2
  unfold wpX_list
  dsimp only
  refine br_c (fun q => ?_) (fun q => ?_)
  · have b1 : kk_b K 1 = [] := by
      unfold kk_b
      refine List.filter_eq_nil_iff.mpr (fun a ha hd => ?_)
      have := (kk_pos (hS.1 a ha)).1
      have := of_decide_eq_true hd
      omega
    have b2 : kk_b K 531441 = K := by
      unfold kk_b
      exact List.filter_eq_self.mpr (fun a ha => decide_eq_true (kk_pos (hS.1 a ha)).2)
    have L2 : li_L C K a_orders a_slices (xl_V post f_top f_freeCount f_count a_orders a_follower a_slices a_values a_held a_below a_freeNodes) 2 1 2 := li_step I hS (xl_li i6 i7) (Or.inr (Or.inr ⟨rfl, rfl⟩)) (Or.inl ⟨rfl, by decide⟩)
    have L1 : li_L C K a_orders a_slices (xl_V post f_top f_freeCount f_count a_orders a_follower a_slices a_values a_held a_below a_freeNodes) 1 81 5 := li_step I hS (xl_li i6 i7) (Or.inr (Or.inl ⟨rfl, rfl⟩)) (Or.inr ⟨by decide, 1, 2, Or.inr (Or.inr ⟨rfl, rfl⟩), rfl, by decide, L2⟩)
    have L0 : li_L C K a_orders a_slices (xl_V post f_top f_freeCount f_count a_orders a_follower a_slices a_values a_held a_below a_freeNodes) 0 6561 8 := li_step I hS (xl_li i6 i7) (Or.inl ⟨rfl, rfl⟩) (Or.inr ⟨by decide, 81, 5, Or.inr (Or.inl ⟨rfl, rfl⟩), rfl, by decide, L1⟩)
    have hQ := li_Q I hS (j := 0) (U := 6561) (q := 0) (Or.inl ⟨rfl, rfl⟩)
    refine br_c (fun z => ?_) (fun z => ?_)
    · have hCn : C 0 = [] := (cc_hn (fun b hb => (i3 0 b hb).1)).mp (by rw [← i1]; exact z)
      have hKn : K = [] := by
        cases K with
        | nil => rfl
        | cons a K =>
          obtain ⟨e, he, _⟩ := hQ a List.mem_cons_self (by have := (kk_pos (hS.1 a List.mem_cons_self)).1; omega) rfl
          rw [hCn] at he
          cases he
      unfold wX_list_31
      refine nm_e (nm_e ⟨1, ?_⟩)
      refine br_f (by decide) (br_t (by decide) (h _ ?_))
      refine ⟨hS, hc, by rw [hKn]; rfl, ?_, C, I⟩
      rw [hKn]
      intro i a ha
      cases ha
    · unfold wX_list_31
      refine nm_e (nm_e ⟨401, ?_⟩)
      have key := L0 ((cc_E a_orders (C 0)).length + (C 0).length) 0 0 1 0 (C 0) [] a_path a_wordAt a_valueAt (upd a_node 0 f_top) (upd a_spot 0 0) (by omega) rfl ⟨by decide, fun i hi => absurd hi (by omega)⟩ (by rw [pk_us]; exact i1) pk_us (fun _ _ _ => Nat.zero_le _) (fun a ha h1 h2 => ?_) (fun e he => ?_) (by decide) (by decide) (by rw [b1]; intro i a ha; cases ha) ?_ (fun t' pa' wa' va' nd' sp' ht' hP' _ hH' => ?_)
      · rw [b1] at key
        exact key
      · rw [List.drop_zero]
        exact hQ a ha h1 h2
      · have := (i5 0 e (by rw [List.drop_zero] at he; exact he)).1
        omega
      · show 0 + 1 + 8 * ((kk_b K 531441).length - (kk_b K 1).length) + 0 ≤ 400
        rw [b1, b2]
        show 0 + 1 + 8 * (K.length - 0) + 0 ≤ 400
        omega
      · have ht2 : t' ≤ 0 + 1 + 8 * ((kk_b K 531441).length - (kk_b K 1).length) + 0 := ht'
        have hH2 : kk_H wa' va' (kk_b K 531441) := hH'
        show xl_V post f_top f_freeCount f_count a_orders a_follower a_slices a_values a_held a_below a_freeNodes (nI 0 + (-1)) t' (nI (kk_b K 531441).length) pa' wa' va' nd' sp'
        rw [b1, b2] at ht2
        rw [b2] at hH2 ⊢
        have ht3 : t' ≤ 0 + 1 + 8 * (K.length - 0) + 0 := ht2
        unfold xl_V
        obtain ⟨N, eN⟩ : ∃ N, 401 - t' = N + 1 := ⟨400 - t', by omega⟩
        rw [eN, wX_list_51]
        refine br_f (nI_ge (b := 400) (by omega) (by decide)) (br_t (by decide) (h _ ?_))
        exact ⟨hS, hc, rfl, hH2, C, I⟩
  · rcases hl with z | ⟨z1, z2⟩
    · exact absurd z q
    · exact h _ ⟨hS, hc, z1, z2, C, I⟩
end
section
/-! the component's questions over the listing -/
theorem xx_nth {wa va : Nat → Int32} {K : List (Nat × Int32)} {j : Nat} (h : kk_H wa va K) (hj : j < K.length) : wa j = kk_nth K j := by
  have e := List.getElem?_eq_getElem hj
  rw [(h _ _ e).1, kk_nths e]
section
variable {f_top f_freeCount f_count f_listed f_current : Int32} {a_orders a_follower a_slices a_values a_held a_below a_freeNodes a_path a_wordAt a_valueAt a_node a_spot : Nat → Int32}
theorem xx_po14 {post : Int32 → SX → Prop} {K : List (Nat × Int32)} {n : Nat} (hn : ww_w n) (hL : xx_L K (f_top, f_freeCount, f_count, f_listed, f_current, a_orders, a_follower, a_slices, a_values, a_held, a_below, a_freeNodes, a_path, a_wordAt, a_valueAt, a_node, a_spot)) (h : post (nI (kk_rk K n)) (f_top, f_freeCount, f_count, f_listed, f_current, a_orders, a_follower, a_slices, a_values, a_held, a_below, a_freeNodes, a_path, a_wordAt, a_valueAt, a_node, a_spot)) : ∀ d i lo hi : Nat, i + d ≤ 6 → hi - lo < 2 ^ d → lo ≤ kk_rk K n → kk_rk K n ≤ hi → hi ≤ K.length → wX_placeOf_14 post (nI n) f_top f_freeCount f_count f_listed f_current a_orders a_follower a_slices a_values a_held a_below a_freeNodes a_path a_wordAt a_valueAt a_node a_spot (d + 1) (nI lo) (nI hi) (nI i) := by
  obtain ⟨hS, hc, hl, hH, C, I⟩ := hL
  have h40 := hS.2.2
  intro d
  induction d with
  | zero =>
    intro i lo hi hi6 h2 h3 h4 h5
    have e : lo = kk_rk K n := by rw [Nat.pow_zero] at h2; omega
    have e2 : hi = kk_rk K n := by rw [Nat.pow_zero] at h2; omega
    rw [wX_placeOf_14]
    refine br_f (nI_ge (b := 7) (by omega) (by decide)) (br_t ?_ ?_)
    · rw [e, e2]; exact nI_le (Nat.le_refl _) (by omega)
    · rw [e]; exact h
  | succ d ih =>
    intro i lo hi hi6 h2 h3 h4 h5
    rw [wX_placeOf_14]
    refine br_f (nI_ge (b := 7) (by omega) (by decide)) (pk_le hi lo (fun q => ?_) (fun q => ?_))
    · have e : lo = kk_rk K n := by omega
      rw [e]; exact h
    · have p2 : 2 ^ (d + 1) = 2 ^ d * 2 := Nat.pow_succ ..
      refine nm_r (e' := nI ((lo + hi) / 2)) (by rw [nI_add, pk_shrN (by omega) _ 1 (by decide)]) ⟨vp_in_nI (by omega) (by decide), ?_⟩
      rw [nI_clamp (n := (lo + hi) / 2) (by omega)]
      have e := List.getElem?_eq_getElem (show (lo + hi) / 2 < K.length by omega)
      rw [(hH _ _ e).1]
      have k := kk_rki hS.2.1 (w := n) e
      refine xw_comesBefore (hS.1 _ (List.mem_of_getElem? e)) hn (fun g => ?_) (fun g => ?_)
      · have g2 := k.mp g
        exact br_f (by decide) (nm_r (nI_1 _) (nm_r (nI_1 i) (ih (i + 1) ((lo + hi) / 2 + 1) hi (by omega) (by omega) (by omega) h4 h5)))
      · have g2 : ¬ (lo + hi) / 2 < kk_rk K n := fun z => g (k.mpr z)
        exact br_t rfl (nm_r (nI_1 i) (ih (i + 1) lo ((lo + hi) / 2) (by omega) (by omega) h3 (by omega) (by omega)))
theorem xx_n36 {post : Int32 → SX → Prop} {K : List (Nat × Int32)} {j : Nat} (hj : j < 2 ^ 30) (hL : xx_L K (f_top, f_freeCount, f_count, f_listed, f_current, a_orders, a_follower, a_slices, a_values, a_held, a_below, a_freeNodes, a_path, a_wordAt, a_valueAt, a_node, a_spot)) (h1 : j < K.length → post (kk_nth K j) (f_top, f_freeCount, f_count, f_listed, f_current, a_orders, a_follower, a_slices, a_values, a_held, a_below, a_freeNodes, a_path, a_wordAt, a_valueAt, a_node, a_spot)) (h2 : K.length ≤ j → post (-2) (f_top, f_freeCount, f_count, f_listed, f_current, a_orders, a_follower, a_slices, a_values, a_held, a_below, a_freeNodes, a_path, a_wordAt, a_valueAt, a_node, a_spot)) : wX_next_36 post (nI j) f_top f_freeCount f_count f_listed f_current a_orders a_follower a_slices a_values a_held a_below a_freeNodes a_path a_wordAt a_valueAt a_node a_spot := by
  obtain ⟨hS, hc, hl, hH, C, I⟩ := hL
  have h40 := hS.2.2
  unfold wX_next_36
  refine pk_le K.length j h2 (fun q => ⟨vp_in_nI (by omega) (by decide), ?_⟩) (hx := hl)
  rw [nI_clamp (n := j) (by omega), xx_nth hH q]
  exact h1 q
theorem xx_ct {post : Int32 → SX → Prop} {K : List (Nat × Int32)} {row : Nat} (hr : ww_r row) (hL : xx_L K (f_top, f_freeCount, f_count, f_listed, f_current, a_orders, a_follower, a_slices, a_values, a_held, a_below, a_freeNodes, a_path, a_wordAt, a_valueAt, a_node, a_spot)) : ∀ (Q P : List (Nat × Int32)) (m : Nat), K = P ++ Q → post (nI (m + Q.countP (kk_g row))) (f_top, f_freeCount, f_count, f_listed, f_current, a_orders, a_follower, a_slices, a_values, a_held, a_below, a_freeNodes, a_path, a_wordAt, a_valueAt, a_node, a_spot) → wX_count_17 post (nI row) f_top f_freeCount f_count f_listed f_current a_orders a_follower a_slices a_values a_held a_below a_freeNodes a_path a_wordAt a_valueAt a_node a_spot (Q.length + 1) (nI m) (nI P.length) := by
  obtain ⟨hS, hc, hl, hH, C, I⟩ := hL
  have h40 := hS.2.2
  have lr := ww_lt hr
  intro Q
  induction Q with
  | nil =>
    intro P m e h
    have e' : K = P := by rw [e, List.append_nil]
    rw [wX_count_17]
    exact br_t (by rw [hl, e']; exact nI_le (Nat.le_refl _) (by rw [← e']; omega)) h
  | cons a Q ih =>
    intro P m e h
    have el := yy_len e
    have hv := yy_w hH h40 e
    have la := ww_lt (hS.1 a (yy_mem e)).1
    have i1 := fun m => ih (P ++ [a]) m (yy_app e)
    rw [yy_l1] at i1
    rw [wX_count_17]
    refine br_f (by rw [hl]; exact nI_ge (by omega) (by omega)) ⟨vp_in_nI (by omega) (by decide), ?_⟩
    rw [hv.1]
    refine xw_begins (by omega) (by omega) (fun g => ?_) (fun g => ?_)
    · rw [List.countP_cons_of_pos (kk_gt g)] at h
      refine br_f (by decide) (nm_r (nI_1 m) (nm_r (nI_1 _) (i1 (m + 1) ?_)))
      have e2 : m + 1 + Q.countP (kk_g row) = m + (Q.countP (kk_g row) + 1) := by omega
      rw [e2]
      exact h
    · rw [List.countP_cons_of_neg (fun hc => g (kk_gi.mp hc))] at h
      exact br_t rfl (nm_r (Int32.add_zero _) (nm_r (nI_1 _) (i1 m h)))
theorem xx_sm {post : Int32 → SX → Prop} {K : List (Nat × Int32)} {row : Nat} (hr : ww_r row) (hL : xx_L K (f_top, f_freeCount, f_count, f_listed, f_current, a_orders, a_follower, a_slices, a_values, a_held, a_below, a_freeNodes, a_path, a_wordAt, a_valueAt, a_node, a_spot)) : ∀ (Q P : List (Nat × Int32)) (m : Int32), K = P ++ Q → post (m + kk_sum row Q) (f_top, f_freeCount, f_count, f_listed, f_current, a_orders, a_follower, a_slices, a_values, a_held, a_below, a_freeNodes, a_path, a_wordAt, a_valueAt, a_node, a_spot) → wX_sum_17 post (nI row) f_top f_freeCount f_count f_listed f_current a_orders a_follower a_slices a_values a_held a_below a_freeNodes a_path a_wordAt a_valueAt a_node a_spot (Q.length + 1) m (nI P.length) := by
  obtain ⟨hS, hc, hl, hH, C, I⟩ := hL
  have h40 := hS.2.2
  have lr := ww_lt hr
  intro Q
  induction Q with
  | nil =>
    intro P m e h
    have e' : K = P := by rw [e, List.append_nil]
    have h : post (m + 0) _ := h
    rw [Int32.add_zero] at h
    rw [wX_sum_17]
    exact br_t (by rw [hl, e']; exact nI_le (Nat.le_refl _) (by rw [← e']; omega)) h
  | cons a Q ih =>
    intro P m e h
    have el := yy_len e
    have hv := yy_w hH h40 e
    have la := ww_lt (hS.1 a (yy_mem e)).1
    have i1 := fun m => ih (P ++ [a]) m (yy_app e)
    rw [yy_l1] at i1
    have h : post (m + ((if kk_g row a = true then a.2 else 0) + kk_sum row Q)) _ := h
    rw [wX_sum_17]
    have vi : vp_in (nI P.length) 40 := vp_in_nI (by omega) (by decide)
    refine br_f (by rw [hl]; exact nI_ge (by omega) (by omega)) ⟨vi, ?_⟩
    rw [hv.1, hv.2]
    refine xw_begins (by omega) (by omega) (fun g => ?_) (fun g => ?_)
    · rw [if_pos (kk_gt g), ← Int32.add_assoc] at h
      exact br_f (by decide) ⟨vi, nm_e (nm_r (nI_1 _) (i1 _ h))⟩
    · rw [if_neg (fun hc => g (kk_gi.mp hc)), Int32.zero_add] at h
      exact br_t rfl (nm_r (Int32.add_zero _) (nm_r (nI_1 _) (i1 m h)))
theorem xx_cm {post : Int32 → SX → Prop} {K : List (Nat × Int32)} {row : Nat} (hr : ww_r row) (hL : xx_L K (f_top, f_freeCount, f_count, f_listed, f_current, a_orders, a_follower, a_slices, a_values, a_held, a_below, a_freeNodes, a_path, a_wordAt, a_valueAt, a_node, a_spot)) (h : ∀ r, kk_com r K row → post r (f_top, f_freeCount, f_count, f_listed, f_current, a_orders, a_follower, a_slices, a_values, a_held, a_below, a_freeNodes, a_path, a_wordAt, a_valueAt, a_node, a_spot)) : ∀ (Q P : List (Nat × Int32)) (r : Int32), K = P ++ Q → kk_com r P row → wX_common_18 post (nI row) f_top f_freeCount f_count f_listed f_current a_orders a_follower a_slices a_values a_held a_below a_freeNodes a_path a_wordAt a_valueAt a_node a_spot (Q.length + 1) r (nI P.length) := by
  obtain ⟨hS, hc, hl, hH, C, I⟩ := hL
  have h40 := hS.2.2
  have lr := ww_lt hr
  intro Q
  induction Q with
  | nil =>
    intro P r e hP
    have e' : K = P := by rw [e, List.append_nil]
    rw [wX_common_18]
    exact br_t (by rw [hl, e']; exact nI_le (Nat.le_refl _) (by rw [← e']; omega)) (h r (by rw [e']; exact hP))
  | cons a Q ih =>
    intro P r e hP
    have el := yy_len e
    have hv := yy_w hH h40 e
    have ha := hS.1 a (yy_mem e)
    have la := ww_lt ha.1
    have i1 := fun r => ih (P ++ [a]) r (yy_app e)
    rw [yy_l1] at i1
    rw [wX_common_18]
    have vi : vp_in (nI P.length) 40 := vp_in_nI (by omega) (by decide)
    refine br_f (by rw [hl]; exact nI_ge (by omega) (by omega)) ⟨vi, ?_⟩
    rw [hv.1]
    refine xw_begins (by omega) (by omega) (fun g => br_f (by decide) ?_) (fun g => br_t rfl (nm_r (nI_1 _) (i1 r (kk_com0 hP g))))
    rcases hP with ⟨e1, f1⟩ | ⟨m, e1, g1, b, hb, f1⟩
    · exact br_f (by rw [e1]; decide) ⟨vi, nm_e (nm_r (nI_1 _) (i1 _ (kk_com1 f1 ha g)))⟩
    · have lm := ww_lt g1.1
      rw [e1]
      refine br_t (nI_pos' (by omega)) ⟨vi, xw_shared (by omega) (by omega) (nm_r (nI_1 _) ?_)⟩
      exact i1 _ (kk_com2 g1 ha g (Nat.le_refl _))
theorem xx_lg {post : Int32 → Prop} {K : List (Nat × Int32)} {C : Nat → List Nat} {w : Nat} (hw : ww_w w) (hS : kk_S K) (I : ti_I 0 6561 C K f_top f_freeCount a_orders a_follower a_slices a_values a_held a_below a_freeNodes) (h : ∀ r, kk_best r K w → post r) : ∀ k : Nat, k ≤ ww_z w → (∀ a, a ∈ K → ww_g a.1 w → ww_z a.1 ≤ k) → wX_longest_16 post (nI w) (nI (ww_z w)) f_top f_freeCount f_count f_listed f_current a_orders a_follower a_slices a_values a_held a_below a_freeNodes a_path a_wordAt a_valueAt a_node a_spot (k + 1) (nI k) := by
  have z7 := ww_z7 w
  have lw := ww_lt hw.1
  intro k
  induction k with
  | zero =>
    intro hk hm
    rw [wX_longest_16]
    refine br_t (by decide) (h _ (Or.inl ⟨rfl, fun a ha g => ?_⟩))
    have := hm a ha g
    have e := ww_z1 (hS.1 a ha).1 (by omega)
    have := (hS.1 a ha).2
    omega
  | succ k ih =>
    intro hk hm
    rw [wX_longest_16]
    refine br_f (nI_nlt (b := 1) (by omega) (by omega)) (nm_r (e' := nI (w / 8 ^ (ww_z w - (k + 1)))) (by rw [pk_sub hk, xw_sh (by omega) (by omega)]) ?_)
    obtain ⟨b1, b2⟩ := ww_pre hw.1 hk
    have b3 := ww_gp hw.1 hk
    generalize w / 8 ^ (ww_z w - (k + 1)) = b at *
    have b4 : ww_w b := ⟨b1, by
      have := (ww_rc b1).2.1
      rw [b2] at this
      have e := Nat.pow_le_pow_right (show 0 < 8 by decide) (show 1 ≤ k + 1 by omega)
      omega⟩
    have next : (∀ y, (b, y) ∉ K) → wX_longest_16 post (nI w) (nI (ww_z w)) f_top f_freeCount f_count f_listed f_current a_orders a_follower a_slices a_values a_held a_below a_freeNodes a_path a_wordAt a_valueAt a_node a_spot (k + 1) (nI k) := fun q => ih (by omega) (fun a ha g => by
      have := hm a ha g
      rcases Nat.lt_or_ge k (ww_z a.1) with y | y
      · exfalso
        have e2 : a.1 = b := ww_ge (ww_gg g b3 (by omega)) (by omega)
        exact q a.2 (by rw [← e2]; exact ha)
      · exact y)
    refine xt_find I b4 (fun e he => ?_) (fun q => br_t (by decide) (nm_r (pk_m1 k) (next (xx_out I q))))
    have l4 := ti_at488 I he
    have ve : vp_in (nI e) 488 := vp_in_nI l4 (by decide)
    rw [nI_clamp (n := e) (by omega)]
    refine br_f (nI_pos (by omega)) ⟨ve, ?_⟩
    rcases xx_in I hS.1 b4 he with ⟨y1, y2⟩ | ⟨y1, y2⟩
    · exact br_t y1 (nm_r (pk_m1 k) (next y2))
    · refine br_f (by rw [y1]; decide) (h _ (Or.inr ⟨b, rfl, ⟨_, y2, rfl⟩, b3, fun a ha g => ?_⟩))
      have g2 := ww_gg g b3 (by have := hm a ha g; omega)
      rw [← g2.2]
      exact Nat.div_le_self _ _
end
theorem xx_placeOf {post : Int32 → SX → Prop} {K : List (Nat × Int32)} {u : SX} {n : Nat} (hn : ww_w n) (hR : xx_R K u) (h : ∀ u', xx_L K u' → post (nI (kk_rk K n)) u') : wpX_placeOf post u (nI n) := by
  obtain ⟨f_top, f_freeCount, f_count, f_listed, f_current, a_orders, a_follower, a_slices, a_values, a_held, a_below, a_freeNodes, a_path, a_wordAt, a_valueAt, a_node, a_spot⟩ := u
  unfold wpX_placeOf
  dsimp only
  refine xx_list hR (fun u' hL => ?_)
  obtain ⟨f_top, f_freeCount, f_count, f_listed, f_current, a_orders, a_follower, a_slices, a_values, a_held, a_below, a_freeNodes, a_path, a_wordAt, a_valueAt, a_node, a_spot⟩ := u'
  dsimp only
  have hL' := hL
  obtain ⟨hS, hc, hl, hH, C, I⟩ := hL'
  have h40 := hS.2.2
  rw [hl]
  refine ⟨7, ?_⟩
  rw [← hl]
  have := xx_po14 hn hL (h _ hL) 6 0 0 K.length (by omega) (by show K.length - 0 < 64; omega) (by omega) (kk_rkle K n) (Nat.le_refl _)
  rw [← hl] at this
  exact this
/-! clear -/
theorem kk_sub {K L : List (Nat × Int32)} (h : kk_S K) (hs : L.Sublist K) : kk_S L := ⟨fun a ha => h.1 a (hs.subset ha), h.2.1.sublist hs, Nat.le_trans hs.length_le h.2.2⟩
theorem kk_delm {X Y : List (Nat × Int32)} {a : Nat × Int32} (h : kk_S (X ++ a :: Y)) : kk_del (X ++ a :: Y) a.1 = X ++ Y := by
  obtain ⟨p1, p2, p3⟩ := List.pairwise_append.mp h.2.1
  obtain ⟨p4, p5⟩ := List.pairwise_cons.mp p2
  unfold kk_del
  rw [List.filter_append, List.filter_cons_of_neg (by simp)]
  have e1 : X.filter (fun b => decide (b.1 ≠ a.1)) = X := List.filter_eq_self.mpr (fun b hb => decide_eq_true (fun z => by
    have := p3 b hb a List.mem_cons_self
    rw [z] at this
    omega))
  have e2 : Y.filter (fun b => decide (b.1 ≠ a.1)) = Y := List.filter_eq_self.mpr (fun b hb => decide_eq_true (fun z => by
    have := p4 b hb
    rw [z] at this
    omega))
  rw [e1, e2]
section
variable {f_top f_freeCount f_count f_listed f_current : Int32} {a_orders a_follower a_slices a_values a_held a_below a_freeNodes a_path a_wordAt a_valueAt a_node a_spot : Nat → Int32}
theorem xx_cl23 {post : Int32 → SX → Prop} {K : List (Nat × Int32)} {row : Nat} (hr : ww_r row) (hS : kk_S K) (hH : kk_H a_wordAt a_valueAt K) (hl : f_listed = nI K.length) (h : ∀ u', xx_R (K.filter (fun a => !kk_g row a)) u' → post (nI (K.countP (kk_g row))) u') : ∀ (Q P : List (Nat × Int32)) (C : Nat → List Nat) (f_top f_freeCount f_count f_current : Int32) (a_orders a_follower a_slices a_values a_held a_below a_freeNodes a_path a_node a_spot : Nat → Int32), K = P ++ Q → f_count = nI (P.filter (fun a => !kk_g row a) ++ Q).length → (f_current = 0 ∨ P.filter (fun a => !kk_g row a) = P) → ti_I 0 6561 C (P.filter (fun a => !kk_g row a) ++ Q) f_top f_freeCount a_orders a_follower a_slices a_values a_held a_below a_freeNodes → wX_clear_23 post (nI row) (nI K.length) (Q.length + 1) (nI (P.countP (kk_g row))) (nI P.length) f_top f_freeCount f_count f_listed f_current a_orders a_follower a_slices a_values a_held a_below a_freeNodes a_path a_wordAt a_valueAt a_node a_spot := by
  have h40 := hS.2.2
  have lr := ww_lt hr
  intro Q
  induction Q with
  | nil =>
    intro P C f_top f_freeCount f_count f_current a_orders a_follower a_slices a_values a_held a_below a_freeNodes a_path a_node a_spot e hc hcur I
    have e' : K = P := by rw [e, List.append_nil]
    rw [List.append_nil] at hc I
    rw [wX_clear_23]
    refine br_t (by rw [e']; exact nI_le (Nat.le_refl _) (by rw [← e']; omega)) ?_
    rw [← e'] at hc hcur I ⊢
    refine h _ ⟨kk_sub hS List.filter_sublist, hc, ?_, C, I⟩
    rcases hcur with z | z
    · exact Or.inl z
    · exact Or.inr ⟨by rw [z]; exact hl, by rw [z]; exact hH⟩
  | cons a Q ih =>
    intro P C f_top f_freeCount f_count f_current a_orders a_follower a_slices a_values a_held a_below a_freeNodes a_path a_node a_spot e hc hcur I
    have el := yy_len e
    have hv := yy_w hH h40 e
    have ha := hS.1 a (yy_mem e)
    have la := ww_lt ha.1
    have i1 := ih (P ++ [a])
    rw [yy_l1] at i1
    rw [wX_clear_23]
    have vi : vp_in (nI P.length) 40 := vp_in_nI (by omega) (by decide)
    refine br_f (nI_ge (by omega) (by omega)) ⟨vi, ?_⟩
    rw [hv.1]
    refine xw_begins (by omega) (by omega) (fun g => br_f (by decide) ⟨vi, ?_⟩) (fun g => br_t rfl (nm_r (nI_1 _) ?_))
    · have hSc : kk_S (P.filter (fun a => !kk_g row a) ++ a :: Q) := kk_sub hS (by rw [e]; exact List.Sublist.append List.filter_sublist (List.Sublist.refl _))
      have ef : (P ++ [a]).filter (fun a => !kk_g row a) = P.filter (fun a => !kk_g row a) := by
        rw [List.filter_append, List.filter_cons_of_neg (by rw [kk_gt g]; decide), List.filter_nil, List.append_nil]
      have ec : (P ++ [a]).countP (kk_g row) = P.countP (kk_g row) + 1 := by
        rw [List.countP_append, List.countP_cons_of_pos (kk_gt g), List.countP_nil]
      rw [ef, ec] at i1
      refine xt_takeOut ha hSc ⟨a.2, List.mem_append.mpr (Or.inr List.mem_cons_self)⟩ I (fun C' f_top' f_freeCount' a_orders' a_follower' a_held' a_below' a_freeNodes' a_path' I2 => ?_)
      dsimp only
      rw [kk_delm hSc] at I2
      refine nm_r (nI_1 _) (nm_r (nI_1 _) (i1 C' _ _ _ _ _ _ _ _ _ _ _ _ _ _ (yy_app e) ?_ (Or.inl rfl) I2))
      rw [hc, List.length_append, List.length_cons, List.length_append]
      exact nI_pred _
    · have ef : (P ++ [a]).filter (fun a => !kk_g row a) = P.filter (fun a => !kk_g row a) ++ [a] := by
        rw [List.filter_append, List.filter_cons_of_pos (by rw [kk_gf g]; decide), List.filter_nil]
      have ec : (P ++ [a]).countP (kk_g row) = P.countP (kk_g row) := by
        rw [List.countP_append, List.countP_cons_of_neg (fun hc => g (kk_gi.mp hc)), List.countP_nil, Nat.add_zero]
      rw [ef, ec] at i1
      refine i1 C _ _ _ _ _ _ _ _ _ _ _ _ _ _ (yy_app e) (by rw [hc, List.append_assoc]; rfl) ?_ (by rw [List.append_assoc]; exact I)
      rcases hcur with z | z
      · exact Or.inl z
      · exact Or.inr (by rw [z])
end
theorem xx_clear {post : Int32 → SX → Prop} {K : List (Nat × Int32)} {u : SX} {r : Int32} (hR : xx_R K u)
    (hb : ¬ ww_r r.toNatClampNeg → post (-1) u)
    (hn : ww_r r.toNatClampNeg → ∀ u', xx_R (K.filter (fun a => !kk_g r.toNatClampNeg a)) u' → post (nI (K.countP (kk_g r.toNatClampNeg))) u') : wpX_clear post u r := by
  obtain ⟨f_top, f_freeCount, f_count, f_listed, f_current, a_orders, a_follower, a_slices, a_values, a_held, a_below, a_freeNodes, a_path, a_wordAt, a_valueAt, a_node, a_spot⟩ := u
  unfold wpX_clear
  dsimp only
  refine xw_isRow r (fun w => ?_) (fun w => br_t rfl (hb w))
  refine br_f (by decide) ?_
  have er : r = nI r.toNatClampNeg := xw_of (by have := ww_lt w; omega)
  generalize r.toNatClampNeg = n at *
  subst er
  refine xx_list hR (fun u' hL => ?_)
  obtain ⟨f_top, f_freeCount, f_count, f_listed, f_current, a_orders, a_follower, a_slices, a_values, a_held, a_below, a_freeNodes, a_path, a_wordAt, a_valueAt, a_node, a_spot⟩ := u'
  dsimp only
  obtain ⟨hS, hc, hl, hH, C, I⟩ := hL
  refine ⟨K.length + 1, ?_⟩
  have := xx_cl23 (post := post) w hS hH hl (hn w) K [] C f_top f_freeCount f_count f_current a_orders a_follower a_slices a_values a_held a_below a_freeNodes a_path a_node a_spot rfl hc (Or.inr rfl) I
  rw [← hl] at this
  exact this
end
section
/-! sow and the beginning -/
theorem sw_put {K : List (Nat × Int32)} (hS : kk_S K) (r x : Int32) : ∃ K', kk_S K' ∧ (¬ ww_w r.toNatClampNeg → K' = K) ∧ (∀ (post : Int32 → SX → Prop) (u : SX), xx_R K u → (∀ r' u', xx_R K' u' → post r' u') → wpX_put post u r x) ∧ (∀ (post : Int32 → SY → Prop) (v : SY), kk_Y K v → (∀ r' v', kk_Y K' v' → post r' v') → wpY_put post v r x) := by
  by_cases w : ww_w r.toNatClampNeg
  · by_cases m : ∃ y, (r.toNatClampNeg, y) ∈ K
    · refine ⟨kk_set K r.toNatClampNeg x, kk_set_S hS, fun z => absurd w z, fun post u hR h => ?_, fun post v hY h => ?_⟩
      · exact xx_put hR (fun z => absurd w z) (fun _ _ u' => h 0 u') (fun _ z => absurd m (fun ⟨y, hy⟩ => z y hy)) (fun _ z => absurd m (fun ⟨y, hy⟩ => z y hy))
      · exact yy_put hS hY (fun z => absurd w z) (fun _ _ v' => h 0 v') (fun _ z => absurd m (fun ⟨y, hy⟩ => z y hy)) (fun _ z => absurd m (fun ⟨y, hy⟩ => z y hy))
    · have m' : ∀ y, (r.toNatClampNeg, y) ∉ K := fun y hy => m ⟨y, hy⟩
      by_cases f : K.length = 40
      · refine ⟨K, hS, fun _ => rfl, fun post u hR h => ?_, fun post v hY h => ?_⟩
        · exact xx_put hR (fun z => absurd w z) (fun _ z => absurd z m) (fun _ _ _ => h _ _ hR) (fun _ _ z => absurd f (by omega))
        · exact yy_put hS hY (fun z => absurd w z) (fun _ z => absurd z m) (fun _ _ _ => h _ _ hY) (fun _ _ z => absurd f (by omega))
      · have h40 := hS.2.2
        refine ⟨kk_ins K r.toNatClampNeg x, kk_ins_S hS w m' (by omega), fun z => absurd w z, fun post u hR h => ?_, fun post v hY h => ?_⟩
        · exact xx_put hR (fun z => absurd w z) (fun _ z => absurd z m) (fun _ _ z => absurd z f) (fun _ _ _ u' => h 1 u')
        · exact yy_put hS hY (fun z => absurd w z) (fun _ z => absurd z m) (fun _ _ z => absurd z f) (fun _ _ _ v' => h 1 v')
  · refine ⟨K, hS, fun _ => rfl, fun post u hR h => ?_, fun post v hY h => ?_⟩
    · exact xx_put hR (fun _ => h _ _ hR) (fun z => absurd z w) (fun z => absurd z w) (fun z => absurd z w)
    · exact yy_put hS hY (fun _ => h _ _ hY) (fun z => absurd z w) (fun z => absurd z w) (fun z => absurd z w)
theorem sw_loop {x1 x3 x4 : Int32} {many : Nat} (hm : many ≤ 30) : ∀ (d k : Nat) (K : List (Nat × Int32)), k + d = many → kk_S K → ∃ K', kk_S K' ∧ (∀ (post : Int32 → SX → Prop) (f_top f_freeCount f_count f_listed f_current : Int32) (a_orders a_follower a_slices a_values a_held a_below a_freeNodes a_path a_wordAt a_valueAt a_node a_spot : Nat → Int32), xx_R K (f_top, f_freeCount, f_count, f_listed, f_current, a_orders, a_follower, a_slices, a_values, a_held, a_below, a_freeNodes, a_path, a_wordAt, a_valueAt, a_node, a_spot) → (∀ u', xx_R K' u' → post (nI K'.length) u') → wX_sow_60 post x1 x3 x4 (nI many) (d + 1) (nI k) f_top f_freeCount f_count f_listed f_current a_orders a_follower a_slices a_values a_held a_below a_freeNodes a_path a_wordAt a_valueAt a_node a_spot) ∧ (∀ (post : Int32 → SY → Prop) (fc : Int32) (ws vs : Nat → Int32), kk_Y K (fc, ws, vs) → (∀ v', kk_Y K' v' → post (nI K'.length) v') → wY_sow_65 post x1 x3 x4 (nI many) (d + 1) (nI k) fc ws vs) := by
  intro d
  induction d with
  | zero =>
    intro k K hk hS
    refine ⟨K, hS, ?_, ?_⟩
    · intro post f_top f_freeCount f_count f_listed f_current a_orders a_follower a_slices a_values a_held a_below a_freeNodes a_path a_wordAt a_valueAt a_node a_spot hR h
      rw [wX_sow_60]
      refine br_t (nI_le (by omega) (by omega)) ?_
      have hc := hR.2.1
      have h1 := h _ hR
      rw [← hc] at h1
      exact h1
    · intro post fc ws vs hY h
      rw [wY_sow_65]
      refine br_t (nI_le (by omega) (by omega)) ?_
      have h1 := h _ hY
      obtain ⟨L, p, e, hH⟩ := hY
      have e : fc = nI K.length := e
      rw [← e] at h1
      exact h1
  | succ d ih =>
    intro k K hk hS
    obtain ⟨K1, s1, s2, s3, s4⟩ := sw_put hS (x1 + nI k * x4) (x3 + nI k)
    obtain ⟨K', t1, t2, t3⟩ := ih (k + 1) K1 (by omega) s1
    refine ⟨K', t1, ?_, ?_⟩
    · intro post f_top f_freeCount f_count f_listed f_current a_orders a_follower a_slices a_values a_held a_below a_freeNodes a_path a_wordAt a_valueAt a_node a_spot hR h
      rw [wX_sow_60]
      refine br_f (nI_ge (by omega) (by omega)) (nm_e ?_)
      refine xw_isWord _ (fun w => br_f (by decide) ?_) (fun w => br_t rfl (nm_r (nI_1 k) ?_))
      · refine s3 _ _ hR (fun r' u' hR' => ?_)
        obtain ⟨f_top, f_freeCount, f_count, f_listed, f_current, a_orders, a_follower, a_slices, a_values, a_held, a_below, a_freeNodes, a_path, a_wordAt, a_valueAt, a_node, a_spot⟩ := u'
        dsimp only
        exact nm_r (nI_1 k) (t2 post _ _ _ _ _ _ _ _ _ _ _ _ _ _ _ _ _ hR' h)
      · have e := s2 w
        rw [e] at t2
        exact t2 post _ _ _ _ _ _ _ _ _ _ _ _ _ _ _ _ _ hR h
    · intro post fc ws vs hY h
      rw [wY_sow_65]
      refine br_f (nI_ge (by omega) (by omega)) ?_
      refine s4 _ _ hY (fun r' v' hY' => ?_)
      obtain ⟨fc', ws', vs'⟩ := v'
      dsimp only
      exact nm_r (nI_1 k) (t3 post _ _ _ hY' h)
/-! the beginning -/
def in_F : List Nat := (List.range 122).map (fun i => 121 - i)
theorem in_Fi {i c : Nat} (h : in_F[i]? = some c) : i < 122 ∧ c = 121 - i := by
  unfold in_F at h
  rw [List.getElem?_map] at h
  rcases Nat.lt_or_ge i 122 with q | q
  · rw [List.getElem?_range q] at h
    exact ⟨q, (Option.some.inj h).symm⟩
  · rw [List.getElem?_eq_none (by rw [List.length_range]; exact q)] at h
    cases h
theorem in_Fn : in_F.Nodup := by decide +kernel
theorem in_Fm {b : Nat} : b ∈ in_F ↔ b < 122 := by
  unfold in_F
  rw [List.mem_map]
  constructor
  · rintro ⟨i, hi, rfl⟩
    omega
  · intro h
    exact ⟨121 - b, List.mem_range.mpr (by omega), by omega⟩
theorem in_R {fr : Nat → Int32} (h : ∀ i, i < 122 → fr i = nI (121 - i)) : xx_R [] (-1, 122, 0, 0, 0, (fun _ => 0), (fun _ => 0), (fun _ => 0), (fun _ => 0), (fun _ => 0), (fun _ => 0), fr, (fun _ => 0), (fun _ => 0), (fun _ => 0), (fun _ => 0), (fun _ => 0)) := by
  refine ⟨⟨(fun a ha => by cases ha), List.Pairwise.nil, by decide⟩, rfl, Or.inl rfl, fun _ => [], ?_⟩
  have nE : ∀ e, ¬ e ∈ cc_E (fun _ => (0 : Int32)) [] := fun e he => by
    unfold cc_E at he
    rw [List.flatMap_nil] at he
    cases he
  refine ⟨rfl, fun _ => trivial, (fun p b hb => by cases hb), fun p => ?_, fun p e he => absurd he (nE e), fun e => ?_, fun _ => Or.inl rfl, fun q hq => absurd rfl hq, (fun p q b hb => by cases hb), fun p => List.nodup_nil, ⟨in_F, ?_, fun i c hc => ?_, in_Fn, fun b => ?_⟩, (fun a ha => by cases ha), fun p e he => absurd he (nE e)⟩
  · show (cc_E (fun _ => (0 : Int32)) []).Pairwise _
    unfold cc_E
    rw [List.flatMap_nil]
    exact List.Pairwise.nil
  · show (0 : Int32).toNatClampNeg < 81 ∧ (0 : Int32) = nI (0 : Int32).toNatClampNeg
    decide
  · show (122 : Int32) = nI in_F.length
    have : in_F.length = 122 := by unfold in_F; rw [List.length_map, List.length_range]
    rw [this]
    rfl
  · obtain ⟨h1, h2⟩ := in_Fi hc
    rw [h2]
    exact h i h1
  · rw [in_Fm]
    exact ⟨fun z => ⟨z, (fun p hp => by cases hp)⟩, fun z => z.1⟩
theorem in_108 {post : SX → Prop} {o f sl v h w pa wa va nd sp : Nat → Int32} (hp : ∀ fr : Nat → Int32, (∀ i, i < 122 → fr i = nI (121 - i)) → post (-1, 122, 0, 0, 0, o, f, sl, v, h, w, fr, pa, wa, va, nd, sp)) : ∀ (d i : Nat) (fr : Nat → Int32), i + d = 122 → (∀ j, j < i → fr j = nI (121 - j)) → wX_init_108 post (-1) 0 0 0 0 (d + 1) (nI i) o f sl v h w fr pa wa va nd sp := by
  intro d
  induction d with
  | zero =>
    intro i fr hi hf
    have ei : i = 122 := by omega
    subst ei
    rw [wX_init_108]
    exact br_t (by decide) (hp fr hf)
  | succ d ih =>
    intro i fr hi hf
    rw [wX_init_108]
    refine br_f (nI_ge (b := 122) (by omega) (by decide)) ⟨vp_in_nI (by omega) (by decide), ?_⟩
    rw [nI_clamp (n := i) (by omega)]
    refine nm_e (nm_r (nI_1 i) (ih (i + 1) _ (by omega) (fun j hj => ?_)))
    by_cases q : j = i
    · subst q
      rw [pk_us]
      exact pk_sub (a := 121) (by omega)
    · rw [pk_un q]
      exact hf j (by omega)
end
section
/-! what is owed -/
/-- both sides hold the same words with the same values -/
def i_Rel (_ : Nat) (u : SX) (v : SY) : Prop := ∃ K, xx_R K u ∧ kk_Y K v
theorem i_up {k : Nat} {u : SX} {v : SY} (h : i_Rel k u v) : i_Rel (k + 4) u v := h
theorem i_vc0 : wpX_init (fun u => wpY_init (fun v => i_Rel 0 u v)) := by
  refine ⟨123, ?_⟩
  show wX_init_108 _ (-1) 0 0 0 0 123 (nI 0) _ _ _ _ _ _ _ _ _ _ _ _
  refine in_108 (fun fr h => ?_) 122 0 _ (by omega) (fun j hj => absurd hj (by omega))
  refine ⟨[], in_R h, [], List.Perm.refl _, rfl, ?_⟩
  intro i a ha
  cases ha
theorem kk_YS {K : List (Nat × Int32)} {u : SX} (h : xx_R K u) : kk_S K := by
  obtain ⟨f_top, f_freeCount, f_count, f_listed, f_current, a_orders, a_follower, a_slices, a_values, a_held, a_below, a_freeNodes, a_path, a_wordAt, a_valueAt, a_node, a_spot⟩ := u
  exact h.1
theorem i_vc_put {k : Nat} {u : SX} {v : SY} (I : i_Rel k u v) (hk : k + 4 ≤ 2048) (v1 : Int32) (v2 : Int32) : wpX_put (fun r u' => wpY_put (fun r' v' => r' = r ∧ i_Rel (k + 4) u' v') v v1 v2) u v1 v2 := by
  obtain ⟨K, hR, hY⟩ := I
  have hS := kk_YS hR
  refine xx_put hR (fun w => ?_) (fun w m u' hR' => ?_) (fun w m f => ?_) (fun w m f u' hR' => ?_)
  · exact yy_put hS hY (fun _ => ⟨rfl, K, hR, hY⟩) (fun z => absurd z w) (fun z => absurd z w) (fun z => absurd z w)
  · exact yy_put hS hY (fun z => absurd w z) (fun _ _ v' hY' => ⟨rfl, _, hR', hY'⟩) (fun _ z => absurd m (fun ⟨y, hy⟩ => z y hy)) (fun _ z => absurd m (fun ⟨y, hy⟩ => z y hy))
  · exact yy_put hS hY (fun z => absurd w z) (fun _ z => absurd z (fun ⟨y, hy⟩ => m y hy)) (fun _ _ _ => ⟨rfl, K, hR, hY⟩) (fun _ _ z => absurd f (by omega))
  · exact yy_put hS hY (fun z => absurd w z) (fun _ z => absurd z (fun ⟨y, hy⟩ => m y hy)) (fun _ _ z => absurd f (by omega)) (fun _ _ _ v' hY' => ⟨rfl, _, hR', hY'⟩)
theorem i_vc_remove {k : Nat} {u : SX} {v : SY} (I : i_Rel k u v) (hk : k + 4 ≤ 2048) (v1 : Int32) : wpX_remove (fun r u' => wpY_remove (fun r' v' => r' = r ∧ i_Rel (k + 4) u' v') v v1) u v1 := by
  obtain ⟨K, hR, hY⟩ := I
  have hS := kk_YS hR
  refine xx_remove hR (fun w => ?_) (fun w m => ?_) (fun w m u' hR' => ?_)
  · exact yy_remove hS hY (fun _ => ⟨rfl, K, hR, hY⟩) (fun z => absurd z w) (fun z => absurd z w)
  · exact yy_remove hS hY (fun z => absurd w z) (fun _ _ => ⟨rfl, K, hR, hY⟩) (fun _ z => absurd z (fun ⟨y, hy⟩ => m y hy))
  · exact yy_remove hS hY (fun z => absurd w z) (fun _ z => absurd m (fun ⟨y, hy⟩ => z y hy)) (fun _ _ v' hY' => ⟨rfl, _, hR', hY'⟩)
theorem i_vc_clear {k : Nat} {u : SX} {v : SY} (I : i_Rel k u v) (hk : k + 4 ≤ 2048) (v1 : Int32) : wpX_clear (fun r u' => wpY_clear (fun r' v' => r' = r ∧ i_Rel (k + 4) u' v') v v1) u v1 := by
  obtain ⟨K, hR, hY⟩ := I
  have hS := kk_YS hR
  refine xx_clear hR (fun w => ?_) (fun w u' hR' => ?_)
  · exact yy_clear hS hY (fun _ => ⟨rfl, K, hR, hY⟩) (fun z => absurd z w)
  · exact yy_clear hS hY (fun z => absurd w z) (fun _ v' hY' => ⟨rfl, _, hR', hY'⟩)
theorem i_vc_sow {k : Nat} {u : SX} {v : SY} (I : i_Rel k u v) (hk : k + 4 ≤ 2048) (v1 : Int32) (v2 : Int32) (v3 : Int32) : wpX_sow (fun r u' => wpY_sow (fun r' v' => r' = r ∧ i_Rel (k + 4) u' v') v v1 v2 v3) u v1 v2 v3 := by
  obtain ⟨K, hR, hY⟩ := I
  have hS := kk_YS hR
  obtain ⟨f_top, f_freeCount, f_count, f_listed, f_current, a_orders, a_follower, a_slices, a_values, a_held, a_below, a_freeNodes, a_path, a_wordAt, a_valueAt, a_node, a_spot⟩ := u
  obtain ⟨fc, ws, vs⟩ := v
  unfold wpX_sow wpY_sow
  dsimp only
  refine xw_isWord v1 (fun w => ?_) (fun w => br_t rfl (yw_badWord v1 (fun z => absurd z w) (fun _ => br_f (by decide) ⟨rfl, K, hR, hY⟩)))
  refine br_f (by decide) ?_
  have yb : ∀ {A B : Prop}, A → wpY_badWord (fun r_1 => ((r_1 = 0 → A) ∧ (¬ r_1 = 0 → B))) (fc, ws, vs) v1 := fun a => yw_badWord v1 (fun _ => br_t rfl a) (fun z => absurd w z)
  by_cases neg : v2 < 0
  · refine nm_e (nm_e (br_t neg (yb (br_f (fun z => ?_) ⟨rfl, K, hR, hY⟩))))
    rw [Int32.lt_iff_toInt_lt] at neg
    rw [Int32.le_iff_toInt_le] at z
    omega
  · obtain ⟨m, hm, rfl⟩ := nI_of neg
    have e1 : nI m >>> ((5 : Int32) &&& 31) = nI (m / 32) := pk_shrN hm _ 5 (by decide)
    have e2 : nI m &&& 31 = nI (m % 32) := pk_andN (n := m) (by omega) 5 (by decide)
    have e3 : nI m / 32 = nI (m / 32) := pk_div (d := 32) hm (by decide) (by decide)
    have e4 : nI m - nI m / 32 * 32 = nI (m % 32) := pk_rem (d := 32) hm (by decide) (by decide)
    rw [e4, e3, e1, e2]
    refine nm_e (nm_e (br_f neg ?_))
    have Y0 : ∀ {A B : Prop}, A → (0 ≤ nI m → A) ∧ (¬ 0 ≤ nI m → B) := fun a => br_t (nI_pos' hm) a
    refine pk_lt (m / 32) 1 (fun q => ?_) (fun q => ?_)
    · exact yb (Y0 ⟨by decide, nm_e ⟨by decide, nm_e (br_t (nI_lt (b := 1) q (by decide)) ⟨rfl, K, hR, hY⟩)⟩⟩)
    refine pk_le (m / 32) 1000 (fun q2 => ?_) (fun q2 => ?_)
    · refine pk_lt (m % 32) 1 (fun q3 => ?_) (fun q3 => ?_)
      · exact yb (Y0 ⟨by decide, nm_e ⟨by decide, nm_e (br_f (nI_nlt (b := 1) q (by omega)) (br_t (nI_le (b := 1000) q2 (by decide)) (br_t (nI_lt (b := 1) q3 (by decide)) ⟨rfl, K, hR, hY⟩)))⟩⟩)
      refine pk_le (m % 32) 30 (fun q4 => ?_) (fun q4 => ?_)
      · obtain ⟨K', t1, t2, t3⟩ := sw_loop (x1 := v1) (x3 := v3) (x4 := nI (m / 32)) (many := m % 32) q4 (m % 32) 0 K (by omega) hS
        refine ⟨_, t2 _ _ _ _ _ _ _ _ _ _ _ _ _ _ _ _ _ _ hR (fun u' hR' => ?_)⟩
        refine yb (Y0 ⟨by decide, nm_e ⟨by decide, nm_e (br_f (nI_nlt (b := 1) q (by omega)) (br_t (nI_le (b := 1000) q2 (by decide)) (br_f (nI_nlt (b := 1) q3 (by omega)) (br_t (nI_le (b := 30) q4 (by decide)) ⟨_, t3 _ _ _ _ hY (fun v' hY' => ⟨rfl, K', hR', hY'⟩)⟩))))⟩⟩)
      · exact yb (Y0 ⟨by decide, nm_e ⟨by decide, nm_e (br_f (nI_nlt (b := 1) q (by omega)) (br_t (nI_le (b := 1000) q2 (by decide)) (br_f (nI_nlt (b := 1) q3 (by omega)) (br_f (nI_ge (a := 30) q4 (by omega)) ⟨rfl, K, hR, hY⟩))))⟩⟩)
    · exact yb (Y0 ⟨by decide, nm_e ⟨by decide, nm_e (br_f (nI_nlt (b := 1) q (by omega)) (br_f (nI_ge (a := 1000) q2 (by omega)) ⟨rfl, K, hR, hY⟩))⟩⟩)
theorem i_vc_size {k : Nat} {u : SX} {v : SY} (I : i_Rel k u v) (hk : k + 4 ≤ 2048) : wpX_size (fun r => wpY_size (fun r' => r' = r ∧ i_Rel (k + 4) u v) v) u := by
  obtain ⟨K, hR, hY⟩ := I
  obtain ⟨f_top, f_freeCount, f_count, f_listed, f_current, a_orders, a_follower, a_slices, a_values, a_held, a_below, a_freeNodes, a_path, a_wordAt, a_valueAt, a_node, a_spot⟩ := u
  obtain ⟨fc, ws, vs⟩ := v
  have hc := hR.2.1
  obtain ⟨L, p, e0, hH⟩ := id hY
  have e0 : fc = nI K.length := e0
  exact ⟨by rw [e0, hc], K, hR, hY⟩
end
section
/-! what is owed, the questions -/
theorem i_vc_has {k : Nat} {u : SX} {v : SY} (I : i_Rel k u v) (hk : k + 4 ≤ 2048) (v1 : Int32) : wpX_has (fun r => wpY_has (fun r' => r' = r ∧ i_Rel (k + 4) u v) v v1) u v1 := by
  obtain ⟨K, hR, hY⟩ := I
  have hS := kk_YS hR
  have h40 := hS.2.2
  obtain ⟨f_top, f_freeCount, f_count, f_listed, f_current, a_orders, a_follower, a_slices, a_values, a_held, a_below, a_freeNodes, a_path, a_wordAt, a_valueAt, a_node, a_spot⟩ := u
  obtain ⟨fc, ws, vs⟩ := v
  obtain ⟨L, p, e0, hH⟩ := id hY
  have e0 : fc = nI K.length := e0
  have hH : kk_H ws vs L := hH
  have pl := p.length_eq
  rw [← pl] at e0
  subst e0
  have hLw : ∀ a, a ∈ L → ww_w a.1 := fun a ha => hS.1 a (p.mem_iff.mp ha)
  obtain ⟨_, _, _, C, I⟩ := id hR
  unfold wpX_has wpY_has
  dsimp only
  refine xw_isWord v1 (fun w => br_f (by decide) ?_) (fun w => br_t rfl (yw_badWord v1 (fun z => absurd z w) (fun _ => br_f (by decide) ⟨rfl, K, hR, hY⟩)))
  have er := yy_wi w
  generalize v1.toNatClampNeg = n at *
  subst er
  have ln := ww_lt w.1
  have yb : ∀ {A B : Prop}, A → wpY_badWord (fun r_1 => ((r_1 = 0 → A) ∧ (¬ r_1 = 0 → B))) (nI L.length, ws, vs) (nI n) := fun a => yw_badWord _ (fun _ => br_t rfl a) (fun z => absurd (by rw [nI_clamp (by omega)]; exact w) z)
  have no : (∀ y, (n, y) ∉ K) → wpY_badWord (fun r_1 => (((r_1 = 0 → (wpY_find (fun r_6 => (((r_6 < 0 → ((0 : Int32) = 0 ∧ i_Rel (k + 4) (f_top, f_freeCount, f_count, f_listed, f_current, a_orders, a_follower, a_slices, a_values, a_held, a_below, a_freeNodes, a_path, a_wordAt, a_valueAt, a_node, a_spot) (nI L.length, ws, vs))) ∧ (¬ r_6 < 0 → ((1 : Int32) = 0 ∧ i_Rel (k + 4) (f_top, f_freeCount, f_count, f_listed, f_current, a_orders, a_follower, a_slices, a_values, a_held, a_below, a_freeNodes, a_path, a_wordAt, a_valueAt, a_node, a_spot) (nI L.length, ws, vs)))))) (nI L.length, ws, vs) (nI n))) ∧ (¬ r_1 = 0 → ((-1 : Int32) = 0 ∧ i_Rel (k + 4) (f_top, f_freeCount, f_count, f_listed, f_current, a_orders, a_follower, a_slices, a_values, a_held, a_below, a_freeNodes, a_path, a_wordAt, a_valueAt, a_node, a_spot) (nI L.length, ws, vs)))))) (nI L.length, ws, vs) (nI n) := fun q => by
    refine yb (yy_find hH (by omega) (fun P a Q e z => ?_) (fun _ => br_t (by decide) ⟨rfl, K, hR, hY⟩))
    have ha := yy_mem e
    have ea := (yy_nI hS (p.mem_iff.mp ha) (by omega)).mp z
    exact absurd (p.mem_iff.mp ha) (by have := q a.2; rw [← ea] at this; exact this)
  refine xt_find I w (fun e he => ?_) (fun q => br_t (by decide) (no (xx_out I q)))
  have l4 := ti_at488 I he
  rw [nI_clamp (n := e) (by omega)]
  refine br_f (nI_pos (by omega)) ⟨vp_in_nI l4 (by decide), ?_⟩
  rcases xx_in I hS.1 w he with ⟨z1, z2⟩ | ⟨z1, z2⟩
  · exact br_t z1 (no z2)
  · refine br_f (by rw [z1]; decide) (yb (yy_find hH (by omega) (fun P a Q e z => ?_) (fun q => absurd rfl (q _ (p.mem_iff.mpr z2)))))
    have el := yy_len e
    exact br_f (nI_pos (by omega)) ⟨rfl, K, hR, hY⟩
theorem i_vc_get {k : Nat} {u : SX} {v : SY} (I : i_Rel k u v) (hk : k + 4 ≤ 2048) (v1 : Int32) : wpX_get (fun r => wpY_get (fun r' => r' = r ∧ i_Rel (k + 4) u v) v v1) u v1 := by
  obtain ⟨K, hR, hY⟩ := I
  have hS := kk_YS hR
  have h40 := hS.2.2
  obtain ⟨f_top, f_freeCount, f_count, f_listed, f_current, a_orders, a_follower, a_slices, a_values, a_held, a_below, a_freeNodes, a_path, a_wordAt, a_valueAt, a_node, a_spot⟩ := u
  obtain ⟨fc, ws, vs⟩ := v
  obtain ⟨L, p, e0, hH⟩ := id hY
  have e0 : fc = nI K.length := e0
  have hH : kk_H ws vs L := hH
  have pl := p.length_eq
  rw [← pl] at e0
  subst e0
  have hLw : ∀ a, a ∈ L → ww_w a.1 := fun a ha => hS.1 a (p.mem_iff.mp ha)
  obtain ⟨_, _, _, C, I⟩ := id hR
  unfold wpX_get wpY_get
  dsimp only
  have no : (∀ a, a ∈ K → nI a.1 ≠ v1) → wpY_find (fun r_1 => (((0 ≤ r_1 → (vp_in r_1 40 ∧ (vs r_1.toNatClampNeg = 0 ∧ i_Rel (k + 4) (f_top, f_freeCount, f_count, f_listed, f_current, a_orders, a_follower, a_slices, a_values, a_held, a_below, a_freeNodes, a_path, a_wordAt, a_valueAt, a_node, a_spot) (nI L.length, ws, vs)))) ∧ (¬ 0 ≤ r_1 → ((0 : Int32) = 0 ∧ i_Rel (k + 4) (f_top, f_freeCount, f_count, f_listed, f_current, a_orders, a_follower, a_slices, a_values, a_held, a_below, a_freeNodes, a_path, a_wordAt, a_valueAt, a_node, a_spot) (nI L.length, ws, vs)))))) (nI L.length, ws, vs) v1 := fun q => by
    refine yy_find hH (by omega) (fun P a Q e z => ?_) (fun _ => br_f (by decide) ⟨rfl, K, hR, hY⟩)
    exact absurd z (q a (p.mem_iff.mp (yy_mem e)))
  refine xw_isWord v1 (fun w => br_f (by decide) ?_) (fun w => br_t rfl (no (fun a ha z => w ?_)))
  rotate_left
  · have la := ww_lt (hS.1 a ha).1
    rw [← z, nI_clamp (by omega)]
    exact hS.1 a ha
  have er := yy_wi w
  generalize v1.toNatClampNeg = n at *
  subst er
  have ln := ww_lt w.1
  have no2 : (∀ y, (n, y) ∉ K) → ∀ a, a ∈ K → nI a.1 ≠ nI n := fun q a ha z => by
    have ea := (yy_nI hS ha (by omega)).mp z
    have := q a.2
    rw [← ea] at this
    exact this ha
  refine xt_find I w (fun e he => ?_) (fun q => br_t (by decide) (no (no2 (xx_out I q))))
  have l4 := ti_at488 I he
  rw [nI_clamp (n := e) (by omega)]
  refine br_f (nI_pos (by omega)) ⟨vp_in_nI l4 (by decide), ?_⟩
  rcases xx_in I hS.1 w he with ⟨z1, z2⟩ | ⟨z1, z2⟩
  · exact br_t z1 (no (no2 z2))
  · refine br_f (by rw [z1]; decide) ⟨vp_in_nI l4 (by decide), yy_find hH (by omega) (fun P a Q e' z => ?_) (fun q => absurd rfl (q _ (p.mem_iff.mpr z2)))⟩
    have el := yy_len e'
    have hw := yy_w hH (by omega) e'
    have haK := p.mem_iff.mp (yy_mem e')
    have ea := (yy_nI hS haK (by omega)).mp z
    refine br_t (nI_pos' (by omega)) ⟨vp_in_nI (by omega) (by decide), ?_, K, hR, hY⟩
    have hw2 : vs (nI P.length).toNatClampNeg = a.2 := hw.2
    rw [hw2]
    have := kk_uq hS.2.1 a haK (n, a_values e) z2 ea
    rw [this]
theorem i_vc_first {k : Nat} {u : SX} {v : SY} (I : i_Rel k u v) (hk : k + 4 ≤ 2048) : wpX_first (fun r u' => wpY_first (fun r' => r' = r ∧ i_Rel (k + 4) u' v) v) u := by
  obtain ⟨K, hR, hY⟩ := I
  have hS := kk_YS hR
  have h40 := hS.2.2
  obtain ⟨f_top, f_freeCount, f_count, f_listed, f_current, a_orders, a_follower, a_slices, a_values, a_held, a_below, a_freeNodes, a_path, a_wordAt, a_valueAt, a_node, a_spot⟩ := u
  obtain ⟨fc, ws, vs⟩ := v
  obtain ⟨L, p, e0, hH⟩ := id hY
  have e0 : fc = nI K.length := e0
  have hH : kk_H ws vs L := hH
  have pl := p.length_eq
  rw [← pl] at e0
  subst e0
  have hLw : ∀ a, a ∈ L → ww_w a.1 := fun a ha => hS.1 a (p.mem_iff.mp ha)
  unfold wpX_first wpY_first
  dsimp only
  refine xx_list hR (fun u' hL => ?_)
  obtain ⟨f_top, f_freeCount, f_count, f_listed, f_current, a_orders, a_follower, a_slices, a_values, a_held, a_below, a_freeNodes, a_path, a_wordAt, a_valueAt, a_node, a_spot⟩ := u'
  dsimp only
  have hR' := xx_LR hL
  obtain ⟨_, _, hl, hW, _⟩ := id hL
  refine pk_eq K.length 0 (fun q => ?_) (fun q => ?_) (hx := hl)
  · exact yy_atN (j := 0) hS p hH (by decide) ⟨kk_nthn (by omega), K, hR', hY⟩
  · exact yy_atN (j := 0) hS p hH (by decide) ⟨(xx_nth hW (by omega)).symm, K, hR', hY⟩
theorem i_vc_last {k : Nat} {u : SX} {v : SY} (I : i_Rel k u v) (hk : k + 4 ≤ 2048) : wpX_last (fun r u' => wpY_last (fun r' => r' = r ∧ i_Rel (k + 4) u' v) v) u := by
  obtain ⟨K, hR, hY⟩ := I
  have hS := kk_YS hR
  have h40 := hS.2.2
  obtain ⟨f_top, f_freeCount, f_count, f_listed, f_current, a_orders, a_follower, a_slices, a_values, a_held, a_below, a_freeNodes, a_path, a_wordAt, a_valueAt, a_node, a_spot⟩ := u
  obtain ⟨fc, ws, vs⟩ := v
  obtain ⟨L, p, e0, hH⟩ := id hY
  have e0 : fc = nI K.length := e0
  have hH : kk_H ws vs L := hH
  have pl := p.length_eq
  rw [← pl] at e0
  subst e0
  have hLw : ∀ a, a ∈ L → ww_w a.1 := fun a ha => hS.1 a (p.mem_iff.mp ha)
  unfold wpX_last wpY_last
  dsimp only
  refine xx_list hR (fun u' hL => ?_)
  obtain ⟨f_top, f_freeCount, f_count, f_listed, f_current, a_orders, a_follower, a_slices, a_values, a_held, a_below, a_freeNodes, a_path, a_wordAt, a_valueAt, a_node, a_spot⟩ := u'
  dsimp only
  have hR' := xx_LR hL
  obtain ⟨_, _, hl, hW, _⟩ := id hL
  refine pk_eq K.length 0 (fun q => ?_) (fun q => ?_) (hx := hl)
  · refine yy_atm hS p hH ?_ ⟨rfl, K, hR', hY⟩
    rw [pl, q]
    decide
  · have e1 : f_listed - 1 = nI (K.length - 1) := by rw [hl]; exact xw_s1 (by omega)
    rw [e1, nI_clamp (n := K.length - 1) (by omega), xw_s1 (a := L.length) (by omega)]
    exact ⟨vp_in_nI (by omega) (by decide), yy_atN (j := L.length - 1) hS p hH (by omega) ⟨by rw [pl]; exact (xx_nth hW (by omega)).symm, K, hR', hY⟩⟩
theorem i_vc_next {k : Nat} {u : SX} {v : SY} (I : i_Rel k u v) (hk : k + 4 ≤ 2048) (v1 : Int32) : wpX_next (fun r u' => wpY_next (fun r' => r' = r ∧ i_Rel (k + 4) u' v) v v1) u v1 := by
  obtain ⟨K, hR, hY⟩ := I
  have hS := kk_YS hR
  have h40 := hS.2.2
  obtain ⟨f_top, f_freeCount, f_count, f_listed, f_current, a_orders, a_follower, a_slices, a_values, a_held, a_below, a_freeNodes, a_path, a_wordAt, a_valueAt, a_node, a_spot⟩ := u
  obtain ⟨fc, ws, vs⟩ := v
  obtain ⟨L, p, e0, hH⟩ := id hY
  have e0 : fc = nI K.length := e0
  have hH : kk_H ws vs L := hH
  have pl := p.length_eq
  rw [← pl] at e0
  subst e0
  have hLw : ∀ a, a ∈ L → ww_w a.1 := fun a ha => hS.1 a (p.mem_iff.mp ha)
  unfold wpX_next wpY_next
  dsimp only
  refine xw_isWord v1 (fun w => br_f (by decide) ?_) (fun w => br_t rfl (yw_badWord v1 (fun z => absurd z w) (fun _ => br_f (by decide) ⟨rfl, K, hR, hY⟩)))
  have er := yy_wi w
  generalize v1.toNatClampNeg = n at *
  subst er
  have ln := ww_lt w.1
  have yb : ∀ {A B : Prop}, A → wpY_badWord (fun r_1 => ((r_1 = 0 → A) ∧ (¬ r_1 = 0 → B))) (nI L.length, ws, vs) (nI n) := fun a => yw_badWord _ (fun _ => br_t rfl a) (fun z => absurd (by rw [nI_clamp (by omega)]; exact w) z)
  refine xx_placeOf w hR (fun u' hL => ?_)
  obtain ⟨f_top, f_freeCount, f_count, f_listed, f_current, a_orders, a_follower, a_slices, a_values, a_held, a_below, a_freeNodes, a_path, a_wordAt, a_valueAt, a_node, a_spot⟩ := u'
  dsimp only
  have hR' := xx_LR hL
  obtain ⟨_, _, hl, hW, _⟩ := id hL
  have rk := kk_rkle K n
  have Y27 : ∀ j r, j < 2 ^ 30 → (j < K.length → r = kk_nth K j) → (K.length ≤ j → r = -2) → wY_next_27 (fun r' => r' = r ∧ i_Rel (k + 4) (f_top, f_freeCount, f_count, f_listed, f_current, a_orders, a_follower, a_slices, a_values, a_held, a_below, a_freeNodes, a_path, a_wordAt, a_valueAt, a_node, a_spot) (nI L.length, ws, vs)) (nI j) (nI L.length) ws vs := fun j r hj h1 h2 => by
    unfold wY_next_27
    refine yy_atN hS p hH (by omega) ?_
    rcases Nat.lt_or_ge j K.length with q | q
    · have e := List.getElem?_eq_getElem q
      have le := ww_lt (hS.1 _ (List.mem_of_getElem? e)).1
      rw [h1 q, kk_nths e]
      exact br_t (nI_pos' (by omega)) ⟨rfl, K, hR', hY⟩
    · rw [kk_nthn q]
      exact br_f (by decide) ⟨(h2 q).symm, K, hR', hY⟩
  have noF : (∀ y, (n, y) ∉ K) → ∀ r, (kk_rk K n < K.length → r = kk_nth K (kk_rk K n)) → (K.length ≤ kk_rk K n → r = -2) → wpY_badWord (fun r_1 => (((r_1 = 0 → (wpY_ahead (fun r_6 => (wpY_find (fun r_10 => (((r_10 < 0 → (wY_next_27 (fun r' => r' = r ∧ i_Rel (k + 4) (f_top, f_freeCount, f_count, f_listed, f_current, a_orders, a_follower, a_slices, a_values, a_held, a_below, a_freeNodes, a_path, a_wordAt, a_valueAt, a_node, a_spot) (nI L.length, ws, vs)) r_6 (nI L.length) ws vs)) ∧ (¬ r_10 < 0 → (∀ x2_20 : Int32, x2_20 = r_6 + 1 → (wY_next_27 (fun r' => r' = r ∧ i_Rel (k + 4) (f_top, f_freeCount, f_count, f_listed, f_current, a_orders, a_follower, a_slices, a_values, a_held, a_below, a_freeNodes, a_path, a_wordAt, a_valueAt, a_node, a_spot) (nI L.length, ws, vs)) x2_20 (nI L.length) ws vs)))))) (nI L.length, ws, vs) (nI n))) (nI L.length, ws, vs) (nI n))) ∧ (¬ r_1 = 0 → ((-1) = r ∧ i_Rel (k + 4) (f_top, f_freeCount, f_count, f_listed, f_current, a_orders, a_follower, a_slices, a_values, a_held, a_below, a_freeNodes, a_path, a_wordAt, a_valueAt, a_node, a_spot) (nI L.length, ws, vs)))))) (nI L.length, ws, vs) (nI n) := fun q r h1 h2 => by
    refine yb (yy_ahead w hS p hH (yy_find hH (by omega) (fun P a Q e z => ?_) (fun _ => br_t (by decide) (Y27 _ r (by omega) h1 h2))))
    have ha := yy_mem e
    have ea := (yy_nI hS (p.mem_iff.mp ha) (by omega)).mp z
    exact absurd (p.mem_iff.mp ha) (by have := q a.2; rw [← ea] at this; exact this)
  refine pk_le K.length (kk_rk K n) (fun q => ?_) (fun q => ?_) (hx := hl)
  · have no : ∀ y, (n, y) ∉ K := fun y hy => by
      have := (List.getElem?_eq_some_iff.mp (kk_rkm hS.2.1 hy)).1
      have : kk_rk K n < K.length := this
      omega
    exact xx_n36 (by omega) hL (fun z => absurd z (by omega)) (fun _ => noF no (-2) (fun z => absurd z (by omega)) (fun _ => rfl))
  · refine ⟨vp_in_nI (by omega) (by decide), ?_⟩
    rw [nI_clamp (n := kk_rk K n) (by omega)]
    have e := List.getElem?_eq_getElem q
    have haK := List.mem_of_getElem? e
    rw [(hW _ _ e).1]
    refine xw_if (yy_nI hS haK (by omega)) (fun z => nm_r (nI_1 _) ?_) (fun z => ?_)
    · have yes : ∃ a, a ∈ K ∧ a.1 = n := ⟨_, haK, z⟩
      obtain ⟨a, ha, ea⟩ := yes
      have yF : ∀ r, (kk_rk K n + 1 < K.length → r = kk_nth K (kk_rk K n + 1)) → (K.length ≤ kk_rk K n + 1 → r = -2) → wpY_badWord (fun r_1 => (((r_1 = 0 → (wpY_ahead (fun r_6 => (wpY_find (fun r_10 => (((r_10 < 0 → (wY_next_27 (fun r' => r' = r ∧ i_Rel (k + 4) (f_top, f_freeCount, f_count, f_listed, f_current, a_orders, a_follower, a_slices, a_values, a_held, a_below, a_freeNodes, a_path, a_wordAt, a_valueAt, a_node, a_spot) (nI L.length, ws, vs)) r_6 (nI L.length) ws vs)) ∧ (¬ r_10 < 0 → (∀ x2_20 : Int32, x2_20 = r_6 + 1 → (wY_next_27 (fun r' => r' = r ∧ i_Rel (k + 4) (f_top, f_freeCount, f_count, f_listed, f_current, a_orders, a_follower, a_slices, a_values, a_held, a_below, a_freeNodes, a_path, a_wordAt, a_valueAt, a_node, a_spot) (nI L.length, ws, vs)) x2_20 (nI L.length) ws vs)))))) (nI L.length, ws, vs) (nI n))) (nI L.length, ws, vs) (nI n))) ∧ (¬ r_1 = 0 → ((-1) = r ∧ i_Rel (k + 4) (f_top, f_freeCount, f_count, f_listed, f_current, a_orders, a_follower, a_slices, a_values, a_held, a_below, a_freeNodes, a_path, a_wordAt, a_valueAt, a_node, a_spot) (nI L.length, ws, vs)))))) (nI L.length, ws, vs) (nI n) := fun r h1 h2 => by
        refine yb (yy_ahead w hS p hH (yy_find hH (by omega) (fun P b Q e2 _ => ?_) (fun y => absurd (by rw [ea]) (y a (p.mem_iff.mpr ha)))))
        have el := yy_len e2
        exact br_f (nI_pos (by omega)) (nm_r (nI_1 _) (Y27 _ r (by omega) h1 h2))
      exact xx_n36 (by omega) hL (fun y => yF _ (fun _ => rfl) (fun x => absurd x (by omega))) (fun y => yF (-2) (fun x => absurd x (by omega)) (fun _ => rfl))
    · have no : ∀ y, (n, y) ∉ K := fun y hy => by
        have e2 := kk_rkm hS.2.1 hy
        have e2 : K[kk_rk K n]? = some (n, y) := e2
        rw [e] at e2
        exact z (by rw [Option.some.inj e2])
      exact xx_n36 (by omega) hL (fun y => noF no _ (fun _ => rfl) (fun x => absurd x (by omega))) (fun y => absurd y (by omega))
theorem i_vc_previous {k : Nat} {u : SX} {v : SY} (I : i_Rel k u v) (hk : k + 4 ≤ 2048) (v1 : Int32) : wpX_previous (fun r u' => wpY_previous (fun r' => r' = r ∧ i_Rel (k + 4) u' v) v v1) u v1 := by
  obtain ⟨K, hR, hY⟩ := I
  have hS := kk_YS hR
  have h40 := hS.2.2
  obtain ⟨f_top, f_freeCount, f_count, f_listed, f_current, a_orders, a_follower, a_slices, a_values, a_held, a_below, a_freeNodes, a_path, a_wordAt, a_valueAt, a_node, a_spot⟩ := u
  obtain ⟨fc, ws, vs⟩ := v
  obtain ⟨L, p, e0, hH⟩ := id hY
  have e0 : fc = nI K.length := e0
  have hH : kk_H ws vs L := hH
  have pl := p.length_eq
  rw [← pl] at e0
  subst e0
  have hLw : ∀ a, a ∈ L → ww_w a.1 := fun a ha => hS.1 a (p.mem_iff.mp ha)
  unfold wpX_previous wpY_previous
  dsimp only
  refine xw_isWord v1 (fun w => br_f (by decide) ?_) (fun w => br_t rfl (yw_badWord v1 (fun z => absurd z w) (fun _ => br_f (by decide) ⟨rfl, K, hR, hY⟩)))
  have er := yy_wi w
  generalize v1.toNatClampNeg = n at *
  subst er
  have ln := ww_lt w.1
  have yb : ∀ {A B : Prop}, A → wpY_badWord (fun r_1 => ((r_1 = 0 → A) ∧ (¬ r_1 = 0 → B))) (nI L.length, ws, vs) (nI n) := fun a => yw_badWord _ (fun _ => br_t rfl a) (fun z => absurd (by rw [nI_clamp (by omega)]; exact w) z)
  refine xx_placeOf w hR (fun u' hL => ?_)
  obtain ⟨f_top, f_freeCount, f_count, f_listed, f_current, a_orders, a_follower, a_slices, a_values, a_held, a_below, a_freeNodes, a_path, a_wordAt, a_valueAt, a_node, a_spot⟩ := u'
  dsimp only
  have hR' := xx_LR hL
  obtain ⟨_, _, hl, hW, _⟩ := id hL
  have rk := kk_rkle K n
  refine pk_le (kk_rk K n) 0 (fun q => ?_) (fun q => ?_)
  · refine yb (yy_ahead w hS p hH (yy_atm hS p hH ?_ (br_f (by decide) ⟨rfl, K, hR', hY⟩)))
    have : kk_rk K n = 0 := by omega
    rw [this]
    decide
  · have q1 : kk_rk K n - 1 < K.length := by omega
    have e := List.getElem?_eq_getElem q1
    have le := ww_lt (hS.1 _ (List.mem_of_getElem? e)).1
    rw [xw_s1 (by omega), nI_clamp (n := kk_rk K n - 1) (by omega), xx_nth hW q1]
    refine ⟨vp_in_nI (by omega) (by decide), yb (yy_ahead w hS p hH ?_)⟩
    rw [xw_s1 (by omega)]
    refine yy_atN hS p hH (by omega) ?_
    rw [kk_nths e]
    exact br_t (nI_pos' (by omega)) ⟨rfl, K, hR', hY⟩
theorem i_vc_rank {k : Nat} {u : SX} {v : SY} (I : i_Rel k u v) (hk : k + 4 ≤ 2048) (v1 : Int32) : wpX_rank (fun r u' => wpY_rank (fun r' => r' = r ∧ i_Rel (k + 4) u' v) v v1) u v1 := by
  obtain ⟨K, hR, hY⟩ := I
  have hS := kk_YS hR
  have h40 := hS.2.2
  obtain ⟨f_top, f_freeCount, f_count, f_listed, f_current, a_orders, a_follower, a_slices, a_values, a_held, a_below, a_freeNodes, a_path, a_wordAt, a_valueAt, a_node, a_spot⟩ := u
  obtain ⟨fc, ws, vs⟩ := v
  obtain ⟨L, p, e0, hH⟩ := id hY
  have e0 : fc = nI K.length := e0
  have hH : kk_H ws vs L := hH
  have pl := p.length_eq
  rw [← pl] at e0
  subst e0
  have hLw : ∀ a, a ∈ L → ww_w a.1 := fun a ha => hS.1 a (p.mem_iff.mp ha)
  unfold wpX_rank wpY_rank
  dsimp only
  refine xw_isWord v1 (fun w => br_f (by decide) ?_) (fun w => br_t rfl (yw_badWord v1 (fun z => absurd z w) (fun _ => br_f (by decide) ⟨rfl, K, hR, hY⟩)))
  have er := yy_wi w
  generalize v1.toNatClampNeg = n at *
  subst er
  have ln := ww_lt w.1
  have yb : ∀ {A B : Prop}, A → wpY_badWord (fun r_1 => ((r_1 = 0 → A) ∧ (¬ r_1 = 0 → B))) (nI L.length, ws, vs) (nI n) := fun a => yw_badWord _ (fun _ => br_t rfl a) (fun z => absurd (by rw [nI_clamp (by omega)]; exact w) z)
  refine xx_placeOf w hR (fun u' hL => ?_)
  obtain ⟨f_top, f_freeCount, f_count, f_listed, f_current, a_orders, a_follower, a_slices, a_values, a_held, a_below, a_freeNodes, a_path, a_wordAt, a_valueAt, a_node, a_spot⟩ := u'
  dsimp only
  exact yb (yy_ahead w hS p hH ⟨rfl, K, xx_LR hL, hY⟩)
theorem i_vc_select {k : Nat} {u : SX} {v : SY} (I : i_Rel k u v) (hk : k + 4 ≤ 2048) (v1 : Int32) : wpX_select (fun r u' => wpY_select (fun r' => r' = r ∧ i_Rel (k + 4) u' v) v v1) u v1 := by
  obtain ⟨K, hR, hY⟩ := I
  have hS := kk_YS hR
  have h40 := hS.2.2
  obtain ⟨f_top, f_freeCount, f_count, f_listed, f_current, a_orders, a_follower, a_slices, a_values, a_held, a_below, a_freeNodes, a_path, a_wordAt, a_valueAt, a_node, a_spot⟩ := u
  obtain ⟨fc, ws, vs⟩ := v
  obtain ⟨L, p, e0, hH⟩ := id hY
  have e0 : fc = nI K.length := e0
  have hH : kk_H ws vs L := hH
  have pl := p.length_eq
  rw [← pl] at e0
  subst e0
  have hLw : ∀ a, a ∈ L → ww_w a.1 := fun a ha => hS.1 a (p.mem_iff.mp ha)
  unfold wpX_select wpY_select
  dsimp only
  refine xx_list hR (fun u' hL => ?_)
  obtain ⟨f_top, f_freeCount, f_count, f_listed, f_current, a_orders, a_follower, a_slices, a_values, a_held, a_below, a_freeNodes, a_path, a_wordAt, a_valueAt, a_node, a_spot⟩ := u'
  dsimp only
  have hR' := xx_LR hL
  obtain ⟨_, _, hl, hW, _⟩ := id hL
  by_cases neg : v1 < 0
  · exact br_t neg (yy_atm hS p hH neg ⟨rfl, K, hR', hY⟩)
  · obtain ⟨j, hj, rfl⟩ := nI_of neg
    refine br_f neg (pk_le K.length j (fun q => ?_) (fun q => ?_) (hx := hl))
    · exact yy_atN hS p hH hj ⟨kk_nthn q, K, hR', hY⟩
    · rw [nI_clamp (n := j) (by omega)]
      exact ⟨vp_in_nI (by omega) (by decide), yy_atN hS p hH hj ⟨(xx_nth hW q).symm, K, hR', hY⟩⟩
theorem i_vc_count {k : Nat} {u : SX} {v : SY} (I : i_Rel k u v) (hk : k + 4 ≤ 2048) (v1 : Int32) : wpX_count (fun r u' => wpY_count (fun r' => r' = r ∧ i_Rel (k + 4) u' v) v v1) u v1 := by
  obtain ⟨K, hR, hY⟩ := I
  have hS := kk_YS hR
  have h40 := hS.2.2
  obtain ⟨f_top, f_freeCount, f_count, f_listed, f_current, a_orders, a_follower, a_slices, a_values, a_held, a_below, a_freeNodes, a_path, a_wordAt, a_valueAt, a_node, a_spot⟩ := u
  obtain ⟨fc, ws, vs⟩ := v
  obtain ⟨L, p, e0, hH⟩ := id hY
  have e0 : fc = nI K.length := e0
  have hH : kk_H ws vs L := hH
  have pl := p.length_eq
  rw [← pl] at e0
  subst e0
  have hLw : ∀ a, a ∈ L → ww_w a.1 := fun a ha => hS.1 a (p.mem_iff.mp ha)
  unfold wpX_count wpY_count
  dsimp only
  refine xw_isRow v1 (fun w => br_f (by decide) ?_) (fun w => br_t rfl (yw_badRow v1 (fun z => absurd z w) (fun _ => br_f (by decide) ⟨rfl, K, hR, hY⟩)))
  have er : v1 = nI v1.toNatClampNeg := xw_of (by have := ww_lt w; omega)
  generalize v1.toNatClampNeg = n at *
  subst er
  have ln := ww_lt w
  have yb : ∀ {A B : Prop}, A → wpY_badRow (fun r_1 => ((r_1 = 0 → A) ∧ (¬ r_1 = 0 → B))) (nI L.length, ws, vs) (nI n) := fun a => yw_badRow _ (fun _ => br_t rfl a) (fun z => absurd (by rw [nI_clamp (by omega)]; exact w) z)
  refine xx_list hR (fun u' hL => ?_)
  obtain ⟨f_top, f_freeCount, f_count, f_listed, f_current, a_orders, a_follower, a_slices, a_values, a_held, a_below, a_freeNodes, a_path, a_wordAt, a_valueAt, a_node, a_spot⟩ := u'
  dsimp only
  have hR' := xx_LR hL
  obtain ⟨_, _, hl, hW, _⟩ := id hL
  refine ⟨_, xx_ct w hL K [] 0 rfl ?_⟩
  refine yb ⟨_, yy_ct w hLw hH (by omega) L [] 0 rfl ⟨?_, K, hR', hY⟩⟩
  rw [p.countP_eq]
theorem i_vc_sum {k : Nat} {u : SX} {v : SY} (I : i_Rel k u v) (hk : k + 4 ≤ 2048) (v1 : Int32) : wpX_sum (fun r u' => wpY_sum (fun r' => r' = r ∧ i_Rel (k + 4) u' v) v v1) u v1 := by
  obtain ⟨K, hR, hY⟩ := I
  have hS := kk_YS hR
  have h40 := hS.2.2
  obtain ⟨f_top, f_freeCount, f_count, f_listed, f_current, a_orders, a_follower, a_slices, a_values, a_held, a_below, a_freeNodes, a_path, a_wordAt, a_valueAt, a_node, a_spot⟩ := u
  obtain ⟨fc, ws, vs⟩ := v
  obtain ⟨L, p, e0, hH⟩ := id hY
  have e0 : fc = nI K.length := e0
  have hH : kk_H ws vs L := hH
  have pl := p.length_eq
  rw [← pl] at e0
  subst e0
  have hLw : ∀ a, a ∈ L → ww_w a.1 := fun a ha => hS.1 a (p.mem_iff.mp ha)
  unfold wpX_sum wpY_sum
  dsimp only
  refine xw_isRow v1 (fun w => br_f (by decide) ?_) (fun w => br_t rfl (yw_badRow v1 (fun z => absurd z w) (fun _ => br_f (by decide) ⟨rfl, K, hR, hY⟩)))
  have er : v1 = nI v1.toNatClampNeg := xw_of (by have := ww_lt w; omega)
  generalize v1.toNatClampNeg = n at *
  subst er
  have ln := ww_lt w
  have yb : ∀ {A B : Prop}, A → wpY_badRow (fun r_1 => ((r_1 = 0 → A) ∧ (¬ r_1 = 0 → B))) (nI L.length, ws, vs) (nI n) := fun a => yw_badRow _ (fun _ => br_t rfl a) (fun z => absurd (by rw [nI_clamp (by omega)]; exact w) z)
  refine xx_list hR (fun u' hL => ?_)
  obtain ⟨f_top, f_freeCount, f_count, f_listed, f_current, a_orders, a_follower, a_slices, a_values, a_held, a_below, a_freeNodes, a_path, a_wordAt, a_valueAt, a_node, a_spot⟩ := u'
  dsimp only
  have hR' := xx_LR hL
  obtain ⟨_, _, hl, hW, _⟩ := id hL
  refine ⟨_, xx_sm w hL K [] 0 rfl ?_⟩
  refine yb ⟨_, yy_sm w hLw hH (by omega) L [] 0 rfl ⟨?_, K, hR', hY⟩⟩
  rw [kk_sump p]
theorem i_vc_longest {k : Nat} {u : SX} {v : SY} (I : i_Rel k u v) (hk : k + 4 ≤ 2048) (v1 : Int32) : wpX_longest (fun r => wpY_longest (fun r' => r' = r ∧ i_Rel (k + 4) u v) v v1) u v1 := by
  obtain ⟨K, hR, hY⟩ := I
  have hS := kk_YS hR
  have h40 := hS.2.2
  obtain ⟨f_top, f_freeCount, f_count, f_listed, f_current, a_orders, a_follower, a_slices, a_values, a_held, a_below, a_freeNodes, a_path, a_wordAt, a_valueAt, a_node, a_spot⟩ := u
  obtain ⟨fc, ws, vs⟩ := v
  obtain ⟨L, p, e0, hH⟩ := id hY
  have e0 : fc = nI K.length := e0
  have hH : kk_H ws vs L := hH
  have pl := p.length_eq
  rw [← pl] at e0
  subst e0
  have hLw : ∀ a, a ∈ L → ww_w a.1 := fun a ha => hS.1 a (p.mem_iff.mp ha)
  obtain ⟨_, _, _, C, I⟩ := id hR
  unfold wpX_longest wpY_longest
  dsimp only
  refine xw_isWord v1 (fun w => br_f (by decide) ?_) (fun w => br_t rfl (yw_badWord v1 (fun z => absurd z w) (fun _ => br_f (by decide) ⟨rfl, K, hR, hY⟩)))
  have er := yy_wi w
  generalize v1.toNatClampNeg = n at *
  subst er
  have ln := ww_lt w.1
  have yb : ∀ {A B : Prop}, A → wpY_badWord (fun r_1 => ((r_1 = 0 → A) ∧ (¬ r_1 = 0 → B))) (nI L.length, ws, vs) (nI n) := fun a => yw_badWord _ (fun _ => br_t rfl a) (fun z => absurd (by rw [nI_clamp (by omega)]; exact w) z)
  refine xw_sizeN (by omega) ⟨_, xx_lg w hS I (fun r hr => ?_) (ww_z n) (Nat.le_refl _) (fun a _ g => g.1)⟩
  refine yb ⟨_, yy_lg w hLw hH (by omega) (fun r' hr' => ⟨kk_bestu (fun a => p.mem_iff) hr hr', K, hR, hY⟩) L [] (-2) rfl (Or.inl ⟨rfl, fun a ha => by cases ha⟩)⟩
theorem i_vc_common {k : Nat} {u : SX} {v : SY} (I : i_Rel k u v) (hk : k + 4 ≤ 2048) (v1 : Int32) : wpX_common (fun r u' => wpY_common (fun r' => r' = r ∧ i_Rel (k + 4) u' v) v v1) u v1 := by
  obtain ⟨K, hR, hY⟩ := I
  have hS := kk_YS hR
  have h40 := hS.2.2
  obtain ⟨f_top, f_freeCount, f_count, f_listed, f_current, a_orders, a_follower, a_slices, a_values, a_held, a_below, a_freeNodes, a_path, a_wordAt, a_valueAt, a_node, a_spot⟩ := u
  obtain ⟨fc, ws, vs⟩ := v
  obtain ⟨L, p, e0, hH⟩ := id hY
  have e0 : fc = nI K.length := e0
  have hH : kk_H ws vs L := hH
  have pl := p.length_eq
  rw [← pl] at e0
  subst e0
  have hLw : ∀ a, a ∈ L → ww_w a.1 := fun a ha => hS.1 a (p.mem_iff.mp ha)
  unfold wpX_common wpY_common
  dsimp only
  refine xw_isRow v1 (fun w => br_f (by decide) ?_) (fun w => br_t rfl (yw_badRow v1 (fun z => absurd z w) (fun _ => br_f (by decide) ⟨rfl, K, hR, hY⟩)))
  have er : v1 = nI v1.toNatClampNeg := xw_of (by have := ww_lt w; omega)
  generalize v1.toNatClampNeg = n at *
  subst er
  have ln := ww_lt w
  have yb : ∀ {A B : Prop}, A → wpY_badRow (fun r_1 => ((r_1 = 0 → A) ∧ (¬ r_1 = 0 → B))) (nI L.length, ws, vs) (nI n) := fun a => yw_badRow _ (fun _ => br_t rfl a) (fun z => absurd (by rw [nI_clamp (by omega)]; exact w) z)
  refine xx_list hR (fun u' hL => ?_)
  obtain ⟨f_top, f_freeCount, f_count, f_listed, f_current, a_orders, a_follower, a_slices, a_values, a_held, a_below, a_freeNodes, a_path, a_wordAt, a_valueAt, a_node, a_spot⟩ := u'
  dsimp only
  have hR' := xx_LR hL
  obtain ⟨_, _, hl, hW, _⟩ := id hL
  refine ⟨_, xx_cm w hL (fun r hr => ?_) K [] (-2) rfl (Or.inl ⟨rfl, fun a ha => by cases ha⟩)⟩
  refine yb ⟨_, yy_cm w hLw hH (by omega) (fun r' hr' => ⟨kk_comu (fun a => p.mem_iff) hr hr', K, hR', hY⟩) L [] (-2) rfl (Or.inl ⟨rfl, fun a ha => by cases ha⟩)⟩
end
