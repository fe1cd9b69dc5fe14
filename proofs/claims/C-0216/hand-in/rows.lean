section
theorem pk_us {f : Nat → Int32} {k : Nat} {x : Int32} : upd f k x k = x := if_pos rfl
theorem pk_un {f : Nat → Int32} {k j : Nat} {x : Int32} (h : j ≠ k) : upd f k x j = f j := if_neg h
theorem pk_sub {a b : Nat} (h : b ≤ a) : nI a - nI b = nI (a - b) := by
  obtain ⟨c, rfl⟩ : ∃ c, a = c + b := ⟨a - b, by omega⟩
  rw [← nI_add, Int32.add_sub_cancel, Nat.add_sub_cancel]
theorem pk_m1 (n : Nat) : nI (n + 1) + (-1) = nI n := by
  rw [← nI_1, Int32.add_assoc, show (1 : Int32) + (-1) = 0 from rfl, Int32.add_zero]
theorem pk_mul (a b : Nat) : nI a * nI b = nI (a * b) := (Int32.ofNat_mul a b).symm
theorem pk_div {a d : Nat} (ha : a < 2 ^ 31) (h0 : 0 < d) (hd : d < 2 ^ 31) : nI a / nI d = nI (a / d) := by
  apply Int32.toInt_inj.mp
  rw [lg_idiv_nonneg (by rw [nI_toInt ha]; omega) (by rw [nI_toInt hd]; omega), nI_toInt ha, nI_toInt hd, nI_toInt (Nat.lt_of_le_of_lt (Nat.div_le_self a d) ha)]
  first | rfl | exact (Int.natCast_ediv _ _).symm
theorem pk_rem {a d : Nat} (ha : a < 2 ^ 31) (h0 : 0 < d) (hd : d < 2 ^ 31) : nI a - nI a / nI d * nI d = nI (a % d) := by
  rw [pk_div ha h0 hd, pk_mul, pk_sub (Nat.div_mul_le_self a d)]
  exact congrArg nI (by have := Nat.div_add_mod' a d; omega)
theorem pk_sub_toInt {a b : Nat} (ha : a < 2 ^ 30) (hb : b < 2 ^ 30) : (nI a - nI b).toInt = (a : Int) - b := by
  rw [Int32.toInt_sub, nI_toInt (by omega), nI_toInt (by omega)]
  exact Int.bmod_eq_of_le (by omega) (by omega)
theorem pk_sneg {a b : Nat} (hb : b < 2 ^ 30) (h : a < b) : nI a - nI b < 0 := by
  rw [Int32.lt_iff_toInt_lt, pk_sub_toInt (by omega) hb, show (0 : Int32).toInt = 0 from by decide]
  omega
theorem pk_ix (x : Int32) {n : Nat} (hn : n < 2 ^ 31) : x < 0 ∨ nI n ≤ x ∨ ∃ j : Nat, j < n ∧ x = nI j := by
  by_cases h : x < 0
  · exact Or.inl h
  · obtain ⟨j, hj, rfl⟩ := nI_of h
    by_cases h2 : j < n
    · exact Or.inr (Or.inr ⟨j, h2, rfl⟩)
    · exact Or.inr (Or.inl (nI_le (by omega) hj))
theorem pk_le {x y : Int32} {A B : Prop} (a b : Nat) (f : a ≤ b → A) (g : b < a → B) (hx : x = nI a := by rfl) (hy : y = nI b := by rfl) (ha : a < 2 ^ 31 := by omega) (hb : b < 2 ^ 31 := by omega) : (x ≤ y → A) ∧ (¬ x ≤ y → B) := by
  subst hx hy
  rw [nI_leI ha hb]
  exact ⟨f, fun z => g (by omega)⟩
theorem pk_lt {x y : Int32} {A B : Prop} (a b : Nat) (f : a < b → A) (g : b ≤ a → B) (hx : x = nI a := by rfl) (hy : y = nI b := by rfl) (ha : a < 2 ^ 31 := by omega) (hb : b < 2 ^ 31 := by omega) : (x < y → A) ∧ (¬ x < y → B) := by
  subst hx hy
  rw [nI_ltI ha hb]
  exact ⟨f, fun z => g (by omega)⟩
theorem pk_eq {x y : Int32} {A B : Prop} (a b : Nat) (f : a = b → A) (g : a ≠ b → B) (hx : x = nI a := by rfl) (hy : y = nI b := by rfl) (ha : a < 2 ^ 31 := by omega) (hb : b < 2 ^ 31 := by omega) : (x = y → A) ∧ (¬ x = y → B) := by
  subst hx hy
  rw [nI_eq ha hb]
  exact ⟨f, g⟩
theorem pk_in {x : Int32} (n N : Nat) (h : n < N) (hx : x = nI n := by rfl) (hN : N < 2 ^ 31 := by omega) : vp_in x N := by
  subst hx
  exact vp_in_nI h hN
theorem pk_cl {x : Int32} (n : Nat) (hx : x = nI n := by rfl) (h : n < 2 ^ 31 := by omega) : x.toNatClampNeg = n := by
  subst hx
  exact nI_clamp h
theorem pk_tn {n : Nat} (h : n < 2 ^ 32) : (nI n).toBitVec.toNat = n := Nat.mod_eq_of_lt h
theorem pk_and (x : Int32) {m : Int32} (k : Nat) (hm : m.toBitVec.toNat = 2 ^ k - 1) : x &&& m = nI (x.toBitVec.toNat % 2 ^ k) := by
  apply Int32.toBitVec_inj.mp
  apply BitVec.eq_of_toNat_eq
  rw [Int32.toBitVec_and, BitVec.toNat_and, hm, Nat.and_two_pow_sub_one_eq_mod]
  show _ = (BitVec.ofNat 32 _).toNat
  rw [BitVec.toNat_ofNat]
  exact (Nat.mod_eq_of_lt (Nat.lt_of_le_of_lt (Nat.mod_le _ _) x.toBitVec.isLt)).symm
theorem pk_andN {n : Nat} (h : n < 2 ^ 32) {m : Int32} (k : Nat) (hm : m.toBitVec.toNat = 2 ^ k - 1) : nI n &&& m = nI (n % 2 ^ k) := by
  rw [pk_and _ k hm, pk_tn h]
theorem pk_andE (x : Int32) {m : Int32} (k : Nat) (hm : m.toBitVec.toNat = 2 ^ k - 1) : ∃ j : Nat, j < 2 ^ k ∧ x &&& m = nI j := ⟨_, Nat.mod_lt _ (Nat.two_pow_pos k), pk_and x k hm⟩
theorem pk_andIn (x : Int32) {m : Int32} (k : Nat) (hm : m.toBitVec.toNat = 2 ^ k - 1) (hk : k ≤ 30) : vp_in (x &&& m) (2 ^ k) := by
  obtain ⟨j, hj, e⟩ := pk_andE x k hm
  rw [e]
  exact vp_in_nI hj (Nat.lt_of_le_of_lt (Nat.pow_le_pow_right (by decide) hk) (by decide))
theorem pk_shl (a s : Int32) (k : Nat) (hs : (s.toBitVec.smod 32).toNat = k) : (a <<< s).toBitVec.toNat = a.toBitVec.toNat * 2 ^ k % 2 ^ 32 := by
  show (a.toBitVec <<< (s.toBitVec.smod 32).toNat).toNat = _
  rw [hs, BitVec.toNat_shiftLeft, Nat.shiftLeft_eq]
theorem pk_shlN {n : Nat} (s : Int32) (k : Nat) (hs : (s.toBitVec.smod 32).toNat = k) (h : n * 2 ^ k < 2 ^ 32) : nI n <<< s = nI (n * 2 ^ k) := by
  apply Int32.toBitVec_inj.mp
  apply BitVec.eq_of_toNat_eq
  have hn : n < 2 ^ 32 := Nat.lt_of_le_of_lt (Nat.le_mul_of_pos_right n (Nat.two_pow_pos k)) h
  rw [pk_shl _ _ k hs, pk_tn hn, pk_tn h, Nat.mod_eq_of_lt h]
theorem pk_shr (a s : Int32) (k : Nat) (hs : (s.toBitVec.smod 32).toNat = k) : (a >>> s).toInt = a.toInt >>> k := by
  show (a.toBitVec.sshiftRight (s.toBitVec.smod 32).toNat).toInt = _
  rw [hs, BitVec.toInt_sshiftRight]
  rfl
theorem pk_shrN {n : Nat} (h : n < 2 ^ 31) (s : Int32) (k : Nat) (hs : (s.toBitVec.smod 32).toNat = k) : nI n >>> s = nI (n / 2 ^ k) := by
  apply Int32.toInt_inj.mp
  have h2 : n / 2 ^ k ≤ n := Nat.div_le_self _ _
  rw [pk_shr _ _ k hs, nI_toInt h, nI_toInt (by omega), Int.shiftRight_eq_div_pow]
  rfl
end
section
/-! numbers, boolean cells, the four bits of a block, counts -/
theorem zq_nb {x : Int32} (h : x = 0 ∨ x = 1) : narrow .boolean (.int x) = .int x := by
  rcases h with rfl | rfl <;> rfl
theorem zq_vb {x : Int32} (h : x = 0 ∨ x = 1) : vp_nar .boolean x = x := by
  rcases h with rfl | rfl <;> rfl
theorem zq_v0 : vp_nar .boolean 0 = 0 := rfl
theorem zq_v1 : vp_nar .boolean 1 = 1 := rfl
def zq_01 (a : Nat → Int32) : Prop := ∀ p, p < 64 → a p = 0 ∨ a p = 1
theorem zq_01u {a : Nat → Int32} {q : Nat} {x : Int32} (h : zq_01 a) (hx : x = 0 ∨ x = 1) : zq_01 (upd a q x) := by
  intro p hp
  by_cases e : p = q
  · rw [e, pk_us]; exact hx
  · rw [pk_un e]; exact h p hp
theorem zq_sh {p : Nat} (hp : p < 64) : nI p >>> ((2 : Int32) &&& 31) = nI (p / 4) := pk_shrN (by omega) _ 2 (by decide)
theorem zq_an {p : Nat} (hp : p < 64) : nI p &&& 3 = nI (p % 4) := pk_andN (by omega) 2 (by decide)
theorem zq_pw : ∀ o, o < 4 → (1 : Int32) <<< (nI o &&& 31) = nI (2 ^ o) := by decide +kernel
theorem zq_xor : ∀ o, o < 3 → ∀ s, s < 48 → s % 2 ^ o = 0 → nI s ^^^ nI (2 ^ o) = nI (if s % 2 ^ (o + 1) = 0 then s + 2 ^ o else s - 2 ^ o) := by decide +kernel
theorem zq_ne1 {k : Nat} (h : k < 2 ^ 31) : ¬ nI k = -1 := by
  intro e
  have h1 := congrArg Int32.toInt e
  rw [nI_toInt h, show (-1 : Int32).toInt = -1 from by decide] at h1
  omega
theorem zq_uid {a : Nat → Int32} {k : Nat} {x : Int32} (h : a k = x) : upd a k x = a := by
  funext j
  by_cases e : j = k
  · rw [e, pk_us, h]
  · rw [pk_un e]
/-! the mask of a block -/
def zq_m (a b c d : Int32) : Int32 := a + 2 * b + 4 * c + 8 * d
theorem zq_mb {a b c d : Int32} (ha : a = 0 ∨ a = 1) (hb : b = 0 ∨ b = 1) (hc : c = 0 ∨ c = 1) (hd : d = 0 ∨ d = 1) :
    ((zq_m a b c d >>> (nI 0 &&& 31)) &&& 1) = a ∧ ((zq_m a b c d >>> (nI 1 &&& 31)) &&& 1) = b ∧ ((zq_m a b c d >>> (nI 2 &&& 31)) &&& 1) = c ∧ ((zq_m a b c d >>> (nI 3 &&& 31)) &&& 1) = d := by
  rcases ha with rfl | rfl <;> rcases hb with rfl | rfl <;> rcases hc with rfl | rfl <;> rcases hd with rfl | rfl <;> decide +kernel
theorem zq_ms {a b c d : Int32} (ha : a = 0 ∨ a = 1) (hb : b = 0 ∨ b = 1) (hc : c = 0 ∨ c = 1) (hd : d = 0 ∨ d = 1) :
    zq_m a b c d ||| ((1 : Int32) <<< (nI 0 &&& 31)) = zq_m 1 b c d ∧ zq_m a b c d ||| ((1 : Int32) <<< (nI 1 &&& 31)) = zq_m a 1 c d ∧ zq_m a b c d ||| ((1 : Int32) <<< (nI 2 &&& 31)) = zq_m a b 1 d ∧ zq_m a b c d ||| ((1 : Int32) <<< (nI 3 &&& 31)) = zq_m a b c 1 := by
  rcases ha with rfl | rfl <;> rcases hb with rfl | rfl <;> rcases hc with rfl | rfl <;> rcases hd with rfl | rfl <;> decide +kernel
theorem zq_mc {a b c d : Int32} (ha : a = 0 ∨ a = 1) (hb : b = 0 ∨ b = 1) (hc : c = 0 ∨ c = 1) (hd : d = 0 ∨ d = 1) :
    zq_m a b c d &&& (((1 : Int32) <<< (nI 0 &&& 31)) ^^^ (-1)) = zq_m 0 b c d ∧ zq_m a b c d &&& (((1 : Int32) <<< (nI 1 &&& 31)) ^^^ (-1)) = zq_m a 0 c d ∧ zq_m a b c d &&& (((1 : Int32) <<< (nI 2 &&& 31)) ^^^ (-1)) = zq_m a b 0 d ∧ zq_m a b c d &&& (((1 : Int32) <<< (nI 3 &&& 31)) ^^^ (-1)) = zq_m a b c 0 := by
  rcases ha with rfl | rfl <;> rcases hb with rfl | rfl <;> rcases hc with rfl | rfl <;> rcases hd with rfl | rfl <;> decide +kernel
theorem zq_mv {a b c d : Int32} (ha : a = 0 ∨ a = 1) (hb : b = 0 ∨ b = 1) (hc : c = 0 ∨ c = 1) (hd : d = 0 ∨ d = 1) :
    (zq_m a b c d = 15 ↔ a = 1 ∧ b = 1 ∧ c = 1 ∧ d = 1) ∧ (zq_m a b c d = 0 ↔ a = 0 ∧ b = 0 ∧ c = 0 ∧ d = 0) := by
  rcases ha with rfl | rfl <;> rcases hb with rfl | rfl <;> rcases hc with rfl | rfl <;> rcases hd with rfl | rfl <;> decide +kernel
def zq_H (th : Nat → Int32) (b : Nat) : Int32 := zq_m (th (4 * b)) (th (4 * b + 1)) (th (4 * b + 2)) (th (4 * b + 3))
theorem zq_k4 {k : Nat} (h : k < 4) : k = 0 ∨ k = 1 ∨ k = 2 ∨ k = 3 := by omega
section
variable {th : Nat → Int32} {b k : Nat}
theorem zq_bit (h : zq_01 th) (hb : b < 16) (hk : k < 4) : (zq_H th b >>> (nI k &&& 31)) &&& 1 = th (4 * b + k) := by
  have hm := zq_mb (h (4 * b) (by omega)) (h (4 * b + 1) (by omega)) (h (4 * b + 2) (by omega)) (h (4 * b + 3) (by omega))
  rcases zq_k4 hk with rfl | rfl | rfl | rfl
  · exact hm.1
  · exact hm.2.1
  · exact hm.2.2.1
  · exact hm.2.2.2
theorem zq_Hs (h : zq_01 th) (hb : b < 16) (hk : k < 4) : zq_H th b ||| ((1 : Int32) <<< (nI k &&& 31)) = zq_H (upd th (4 * b + k) 1) b := by
  have hm := zq_ms (h (4 * b) (by omega)) (h (4 * b + 1) (by omega)) (h (4 * b + 2) (by omega)) (h (4 * b + 3) (by omega))
  unfold zq_H
  rcases zq_k4 hk with rfl | rfl | rfl | rfl
  · rw [pk_un (j := 4 * b + 1) (by omega), pk_un (j := 4 * b + 2) (by omega), pk_un (j := 4 * b + 3) (by omega)]
    exact hm.1.trans (by rw [show upd th (4 * b + 0) 1 (4 * b) = 1 from pk_us])
  · rw [pk_un (j := 4 * b) (by omega), pk_us, pk_un (j := 4 * b + 2) (by omega), pk_un (j := 4 * b + 3) (by omega)]
    exact hm.2.1
  · rw [pk_un (j := 4 * b) (by omega), pk_un (j := 4 * b + 1) (by omega), pk_us, pk_un (j := 4 * b + 3) (by omega)]
    exact hm.2.2.1
  · rw [pk_un (j := 4 * b) (by omega), pk_un (j := 4 * b + 1) (by omega), pk_un (j := 4 * b + 2) (by omega), pk_us]
    exact hm.2.2.2
theorem zq_Hc (h : zq_01 th) (hb : b < 16) (hk : k < 4) : zq_H th b &&& (((1 : Int32) <<< (nI k &&& 31)) ^^^ (-1)) = zq_H (upd th (4 * b + k) 0) b := by
  have hm := zq_mc (h (4 * b) (by omega)) (h (4 * b + 1) (by omega)) (h (4 * b + 2) (by omega)) (h (4 * b + 3) (by omega))
  unfold zq_H
  rcases zq_k4 hk with rfl | rfl | rfl | rfl
  · rw [pk_un (j := 4 * b + 1) (by omega), pk_un (j := 4 * b + 2) (by omega), pk_un (j := 4 * b + 3) (by omega)]
    exact hm.1.trans (by rw [show upd th (4 * b + 0) 0 (4 * b) = 0 from pk_us])
  · rw [pk_un (j := 4 * b) (by omega), pk_us, pk_un (j := 4 * b + 2) (by omega), pk_un (j := 4 * b + 3) (by omega)]
    exact hm.2.1
  · rw [pk_un (j := 4 * b) (by omega), pk_un (j := 4 * b + 1) (by omega), pk_us, pk_un (j := 4 * b + 3) (by omega)]
    exact hm.2.2.1
  · rw [pk_un (j := 4 * b) (by omega), pk_un (j := 4 * b + 1) (by omega), pk_un (j := 4 * b + 2) (by omega), pk_us]
    exact hm.2.2.2
theorem zq_Hn {q : Nat} {x : Int32} (h : q / 4 ≠ b) : zq_H (upd th q x) b = zq_H th b := by
  unfold zq_H
  rw [pk_un (j := 4 * b) (by omega), pk_un (j := 4 * b + 1) (by omega), pk_un (j := 4 * b + 2) (by omega), pk_un (j := 4 * b + 3) (by omega)]
theorem zq_H15 (h : zq_01 th) (hb : b < 16) : zq_H th b = 15 ↔ ∀ j, j < 4 → th (4 * b + j) = 1 := by
  refine (zq_mv (h (4 * b) (by omega)) (h (4 * b + 1) (by omega)) (h (4 * b + 2) (by omega)) (h (4 * b + 3) (by omega))).1.trans ?_
  constructor
  · rintro ⟨h0, h1, h2, h3⟩ j hj
    rcases zq_k4 hj with rfl | rfl | rfl | rfl
    · exact h0
    · exact h1
    · exact h2
    · exact h3
  · intro z
    exact ⟨z 0 (by omega), z 1 (by omega), z 2 (by omega), z 3 (by omega)⟩
theorem zq_H0 (h : zq_01 th) (hb : b < 16) : zq_H th b = 0 ↔ ∀ j, j < 4 → th (4 * b + j) = 0 := by
  refine (zq_mv (h (4 * b) (by omega)) (h (4 * b + 1) (by omega)) (h (4 * b + 2) (by omega)) (h (4 * b + 3) (by omega))).2.trans ?_
  constructor
  · rintro ⟨h0, h1, h2, h3⟩ j hj
    rcases zq_k4 hj with rfl | rfl | rfl | rfl
    · exact h0
    · exact h1
    · exact h2
    · exact h3
  · intro z
    exact ⟨z 0 (by omega), z 1 (by omega), z 2 (by omega), z 3 (by omega)⟩
theorem zq_pg {p : Nat} : 4 * (p / 4) + p % 4 = p := by omega
theorem zq_H0p {p : Nat} (h : zq_01 th) (hp : p < 64) (e : zq_H th (p / 4) = 0) : th p = 0 := by
  have := (zq_H0 h (by omega)).mp e (p % 4) (by omega)
  rwa [zq_pg] at this
theorem zq_H15p {p : Nat} (h : zq_01 th) (hp : p < 64) (e : zq_H th (p / 4) = 15) : th p = 1 := by
  have := (zq_H15 h (by omega)).mp e (p % 4) (by omega)
  rwa [zq_pg] at this
theorem zq_t1 {p : Nat} (h : zq_01 th) (hp : p < 64) (e : th p ≠ 0) : th p = 1 := (h p hp).resolve_left e
end
/-! counts -/
def zq_c (th : Nat → Int32) : Nat → Nat
  | 0 => 0
  | m + 1 => zq_c th m + (if th m = 0 then 0 else 1)
theorem zq_c_le (th : Nat → Int32) : ∀ m, zq_c th m ≤ m := by
  intro m
  induction m with
  | zero => exact Nat.le_refl 0
  | succ m ih =>
    show zq_c th m + (if th m = 0 then 0 else 1) ≤ m + 1
    split <;> omega
theorem zq_c_hi {th : Nat → Int32} {p : Nat} {x : Int32} : ∀ m, m ≤ p → zq_c (upd th p x) m = zq_c th m := by
  intro m
  induction m with
  | zero => exact fun _ => rfl
  | succ m ih =>
    intro h
    show zq_c (upd th p x) m + (if upd th p x m = 0 then 0 else 1) = zq_c th m + (if th m = 0 then 0 else 1)
    rw [ih (by omega), pk_un (by omega)]
theorem zq_c_1 {th : Nat → Int32} {p : Nat} (e : th p = 0) : ∀ m, p < m → zq_c (upd th p 1) m = zq_c th m + 1 := by
  intro m
  induction m with
  | zero => exact fun h => absurd h (Nat.not_lt_zero p)
  | succ m ih =>
    intro h
    show zq_c (upd th p 1) m + (if upd th p 1 m = 0 then 0 else 1) = zq_c th m + (if th m = 0 then 0 else 1) + 1
    by_cases z : m = p
    · subst z
      rw [zq_c_hi m (Nat.le_refl m), pk_us, e, if_neg (by decide), if_pos rfl]
    · rw [ih (by omega), pk_un z]
      omega
theorem zq_c_0 {th : Nat → Int32} {p : Nat} (e : th p ≠ 0) : ∀ m, p < m → zq_c (upd th p 0) m + 1 = zq_c th m := by
  intro m
  induction m with
  | zero => exact fun h => absurd h (Nat.not_lt_zero p)
  | succ m ih =>
    intro h
    show zq_c (upd th p 0) m + (if upd th p 0 m = 0 then 0 else 1) + 1 = zq_c th m + (if th m = 0 then 0 else 1)
    by_cases z : m = p
    · subst z
      rw [zq_c_hi m (Nat.le_refl m), pk_us, if_neg e, if_pos rfl]
    · rw [pk_un z, ← ih (by omega)]
      omega
theorem zq_pig (m : Nat) (P : Nat → Nat) : ∀ (n : Nat) (th : Nat → Int32), (∀ f, f < n → P f < m ∧ th (P f) ≠ 0) → (∀ f f', f < n → f' < n → P f = P f' → f = f') → n ≤ zq_c th m := by
  intro n
  induction n with
  | zero => exact fun _ _ _ => Nat.zero_le _
  | succ n ih =>
    intro th h hi
    have hn := h n (Nat.lt_succ_self n)
    have := ih (upd th (P n) 0) (fun f hf => ⟨(h f (by omega)).1, by
      rw [pk_un (fun e => by have := hi f n (by omega) (by omega) e; omega)]
      exact (h f (by omega)).2⟩) (fun f f' hf hf' => hi f f' (by omega) (by omega))
    have := zq_c_0 hn.2 m hn.1
    omega
/-! the pages of a range that aren't mapped -/
def zq_r (th : Nat → Int32) : Nat → Nat → Nat
  | 0, _ => 0
  | d + 1, a => (if th a = 0 then 1 else 0) + zq_r th d (a + 1)
theorem zq_r_u {th : Nat → Int32} {p : Nat} {x : Int32} : ∀ d a, p < a → zq_r (upd th p x) d a = zq_r th d a := by
  intro d
  induction d with
  | zero => exact fun _ _ => rfl
  | succ d ih =>
    intro a h
    show (if upd th p x a = 0 then 1 else 0) + zq_r (upd th p x) d (a + 1) = (if th a = 0 then 1 else 0) + zq_r th d (a + 1)
    rw [ih _ (by omega), pk_un (by omega)]
theorem zq_r_le {th : Nat → Int32} : ∀ d a, zq_r th d a ≤ d := by
  intro d
  induction d with
  | zero => exact fun _ => Nat.le_refl 0
  | succ d ih =>
    intro a
    have := ih (a + 1)
    show (if th a = 0 then 1 else 0) + zq_r th d (a + 1) ≤ d + 1
    split <;> omega
end
section
/-! the buddy store: codes of frames -/
def zq_BU (n : Nat) (fre : Nat → Int32) (g : Nat → Nat) : Prop :=
  (∀ o a, o < 4 → a < 48 → fre (48 * o + a) ≠ 0 → a % 2 ^ o = 0 ∧ a + 2 ^ o ≤ n ∧ ∀ f, a ≤ f → f < a + 2 ^ o → g f = 48 * o + a) ∧
  (∀ f, f < n → g f < 192 → fre (g f) ≠ 0 ∧ g f % 48 ≤ f ∧ f < g f % 48 + 2 ^ (g f / 48))
theorem zq_ix {o a o' a' : Nat} (ha : a < 48) (ha' : a' < 48) (e : 48 * o' + a' = 48 * o + a) : o' = o ∧ a' = a := by omega
def zq_gp (g : Nat → Nat) (a w c : Nat) : Nat → Nat := fun f => if a ≤ f ∧ f < a + w then c else g f
theorem zq_gpi {g : Nat → Nat} {a w c f : Nat} (h : a ≤ f ∧ f < a + w) : zq_gp g a w c f = c := if_pos h
theorem zq_gpo {g : Nat → Nat} {a w c f : Nat} (h : ¬ (a ≤ f ∧ f < a + w)) : zq_gp g a w c f = g f := if_neg h
theorem zq_rem {n : Nat} {fre : Nat → Int32} {g : Nat → Nat} {o a c : Nat} (h : zq_BU n fre g) (ho : o < 4) (ha : a < 48) (hf : fre (48 * o + a) ≠ 0) (hc : 192 ≤ c) :
    zq_BU n (upd fre (48 * o + a) 0) (zq_gp g a (2 ^ o) c) := by
  obtain ⟨h1, h2⟩ := h
  have hA := h1 o a ho ha hf
  refine ⟨fun o' a' ho' ha' hf' => ?_, fun f hf1 hg => ?_⟩
  · by_cases e : 48 * o' + a' = 48 * o + a
    · rw [e, pk_us] at hf'
      exact absurd rfl hf'
    · rw [pk_un e] at hf'
      have hB := h1 o' a' ho' ha' hf'
      refine ⟨hB.1, hB.2.1, fun f hf1 hf2 => ?_⟩
      rw [zq_gpo (fun z => e ((hB.2.2 f hf1 hf2).symm.trans (hA.2.2 f z.1 z.2)))]
      exact hB.2.2 f hf1 hf2
  · by_cases e : a ≤ f ∧ f < a + 2 ^ o
    · rw [zq_gpi e] at hg
      omega
    · rw [zq_gpo e] at hg ⊢
      have h3 := h2 f hf1 hg
      have ne : g f ≠ 48 * o + a := by
        intro z
        have z1 : g f % 48 = a := by omega
        have z2 : g f / 48 = o := by omega
        rw [z1, z2] at h3
        exact e ⟨h3.2.1, h3.2.2⟩
      rw [pk_un ne]
      exact h3
theorem zq_add {n : Nat} {fre : Nat → Int32} {g : Nat → Nat} {o a : Nat} (h : zq_BU n fre g) (ho : o < 4) (ha : a < 48) (hm : a % 2 ^ o = 0) (hn : a + 2 ^ o ≤ n) (hg : ∀ f, a ≤ f → f < a + 2 ^ o → 192 ≤ g f) :
    zq_BU n (upd fre (48 * o + a) 1) (zq_gp g a (2 ^ o) (48 * o + a)) := by
  obtain ⟨h1, h2⟩ := h
  refine ⟨fun o' a' ho' ha' hf' => ?_, fun f hf1 hg1 => ?_⟩
  · by_cases e : 48 * o' + a' = 48 * o + a
    · obtain ⟨rfl, rfl⟩ := zq_ix ha ha' e
      exact ⟨hm, hn, fun f z1 z2 => zq_gpi ⟨z1, z2⟩⟩
    · rw [pk_un e] at hf'
      have hB := h1 o' a' ho' ha' hf'
      refine ⟨hB.1, hB.2.1, fun f hf1 hf2 => ?_⟩
      have hB3 := hB.2.2 f hf1 hf2
      rw [zq_gpo (fun z => by have := hg f z.1 z.2; omega)]
      exact hB3
  · by_cases e : a ≤ f ∧ f < a + 2 ^ o
    · rw [zq_gpi e]
      rw [pk_us]
      have z1 : (48 * o + a) % 48 = a := by omega
      have z2 : (48 * o + a) / 48 = o := by omega
      rw [z1, z2]
      exact ⟨by decide, e.1, e.2⟩
    · rw [zq_gpo e] at hg1 ⊢
      have h3 := h2 f hf1 hg1
      by_cases z : g f = 48 * o + a
      · refine ⟨?_, h3.2⟩
        rw [z, pk_us]
        decide
      · rw [pk_un z]
        exact h3
theorem zq_re {n : Nat} {fre : Nat → Int32} {g g' : Nat → Nat} (h : zq_BU n fre g) (hg : ∀ f, f < n → g f < 192 → g' f = g f) (hg' : ∀ f, f < n → 192 ≤ g f → 192 ≤ g' f) : zq_BU n fre g' := by
  obtain ⟨h1, h2⟩ := h
  refine ⟨fun o a ho ha hf => ?_, fun f hf1 hg1 => ?_⟩
  · have hA := h1 o a ho ha hf
    refine ⟨hA.1, hA.2.1, fun f z1 z2 => ?_⟩
    have := hA.2.2 f z1 z2
    rw [hg f (by omega) (by omega)]
    exact this
  · have h192 : g f < 192 := by
      by_cases z : g f < 192
      · exact z
      · have := hg' f hf1 (by omega)
        omega
    rw [hg f hf1 h192]
    exact h2 f hf1 h192
theorem zq_none {n : Nat} {fre : Nat → Int32} {g : Nat → Nat} (h : zq_BU n fre g) (z : ∀ o a, o < 4 → a < 48 → fre (48 * o + a) = 0) : ∀ f, f < n → 192 ≤ g f := by
  intro f hf
  by_cases e : g f < 192
  · have h3 := (h.2 f hf e).1
    have := z (g f / 48) (g f % 48) (by omega) (by omega)
    rw [show 48 * (g f / 48) + g f % 48 = g f from by omega] at this
    exact absurd this h3
  · omega
/-- what a store keeps outside a run -/
def zq_K (n : Nat) (g g' : Nat → Nat) (a w : Nat) : Prop := ∀ f, f < n → ¬ (a ≤ f ∧ f < a + w) → (192 ≤ g f → g' f = g f) ∧ (g f < 192 → g' f < 192)
theorem zq_e123 {e t : Nat} (h : e ≤ 3) (h2 : t < e) : e = 1 ∨ e = 2 ∨ e = 3 := by omega
section
variable {post : SX → Prop} {n : Nat} {fc uc ck : Int32} {dat frm cw bas hld lrg lw lu : Nat → Int32}
theorem zq_split {a t c : Nat} (hn : n ≤ 48) (hc : 192 ≤ c) : ∀ (d e : Nat) (fre : Nat → Int32) (g : Nat → Nat), t + d = e → e ≤ 3 → zq_BU n fre g → a % 2 ^ e = 0 → a + 2 ^ e ≤ n → (∀ f, a ≤ f → f < a + 2 ^ e → g f = c) →
    (∀ fre' g', zq_BU n fre' g' → (∀ f, a ≤ f → f < a + 2 ^ t → g' f = c) → (∀ f, ¬ (a ≤ f ∧ f < a + 2 ^ t) → (¬ (a ≤ f ∧ f < a + 2 ^ e) → g' f = g f) ∧ ((a ≤ f ∧ f < a + 2 ^ e) → g' f < 192)) → post (fc, uc, ck, dat, fre', frm, cw, bas, hld, lrg, lw, lu)) →
    wX_split_5 post (nI a) (nI t) fc uc ck (d + 1) (nI e - 1) dat fre frm cw bas hld lrg lw lu := by
  intro d
  induction d with
  | zero =>
    intro e fre g hd he hb _ _ hg h
    have het : e = t := by omega
    subst het
    have hlt : nI e - 1 < nI e := by
      rw [Int32.lt_iff_toInt_lt, show (1 : Int32) = nI 1 from rfl, pk_sub_toInt (by omega) (by omega), nI_toInt (by omega)]
      omega
    exact br_t hlt (h fre g hb hg (fun f z => ⟨fun _ => rfl, fun z2 => absurd z2 z⟩))
  | succ d ih =>
    intro e fre g hd he hb hm hl hg h
    obtain ⟨e', rfl⟩ : ∃ e', e = e' + 1 := ⟨e - 1, by omega⟩
    have hge : ¬ nI (e' + 1) - 1 < nI t := by
      rw [nI_pred]
      exact nI_nlt (by omega) (by omega)
    have hpw : 2 ^ (e' + 1) = 2 ^ e' + 2 ^ e' := by rw [Nat.pow_succ]; omega
    have hp1 : 0 < 2 ^ e' := Nat.two_pow_pos e'
    have hme : (a + 2 ^ e') % 2 ^ e' = 0 := by
      rcases zq_e123 (e := e' + 1) (t := t) he (by omega) with z | z | z
      · have : e' = 0 := by omega
        subst this; omega
      · have : e' = 1 := by omega
        subst this; omega
      · have : e' = 2 := by omega
        subst this; omega
    have hm' : a % 2 ^ e' = 0 := by
      rw [Nat.add_mod_right] at hme
      exact hme
    have ei : ((48 * nI e') + nI a) + ((1 : Int32) <<< (nI e' &&& 31)) = nI (48 * e' + (a + 2 ^ e')) := by
      rw [zq_pw e' (by omega), show (48 : Int32) = nI 48 from rfl, pk_mul, nI_add, nI_add]
      exact congrArg nI (by omega)
    have hidx : 48 * e' + (a + 2 ^ e') < 192 := by omega
    have hadd := zq_add (o := e') (a := a + 2 ^ e') hb (by omega) (by omega) hme (by omega) (fun f z1 z2 => by rw [hg f (by omega) (by omega)]; exact hc)
    refine br_f hge ?_
    rw [nI_pred]
    refine ⟨by rw [ei]; exact vp_in_nI hidx (by omega), nm_r (e' := upd fre (48 * e' + (a + 2 ^ e')) 1) (by rw [ei, nI_clamp (by omega)]; rfl) (nm_r (e' := nI e' - 1) (by rw [show (-1 : Int32) = -(1 : Int32) from rfl, ← Int32.sub_eq_add_neg]) ?_)⟩
    refine ih e' _ _ (by omega) (by omega) hadd hm' (by omega) (fun f z1 z2 => ?_) (fun fre' g' hb' h1 h2 => h fre' g' hb' h1 (fun f z => ?_))
    · rw [zq_gpo (by omega)]
      exact hg f z1 (by omega)
    · have h3 := h2 f z
      constructor
      · intro z2
        rw [h3.1 (by omega), zq_gpo (by omega)]
      · intro z2
        by_cases z3 : f < a + 2 ^ e'
        · exact h3.2 ⟨z2.1, z3⟩
        · rw [h3.1 (by omega), zq_gpi (by omega)]
          exact hidx
end
section
variable {post : Int32 → SX → Prop} {n : Nat} {uc ck : Int32} {dat fre frm cw bas hld lrg lw lu : Nat → Int32}
theorem zq_al9 {J : Int32 → Prop} {t o : Nat} (hn : n ≤ 48) (ho : o < 4)
    (hF : ∀ f, f < n → fre (48 * o + f) ≠ 0 → wpX_split (fun u => match u with | (f1, f2, f3, a1, a2, a3, a4, a5, a6, a7, a8, a9) => post (nI f) (f1, f2, f3, a1, a2, a3, a4, a5, a6, a7, a8, a9)) (nI n, uc, ck, dat, upd fre (48 * o + f) 0, frm, cw, bas, hld, lrg, lw, lu) (nI f) (nI o) (nI t))
    (hN : (∀ f, f < n → f % 2 ^ o = 0 → fre (48 * o + f) = 0) → J (nI (o + 1))) :
    ∀ (d f : Nat), n ≤ f + d → f ≤ n + 8 → f % 2 ^ o = 0 → (∀ f', f' < f → f' < n → f' % 2 ^ o = 0 → fre (48 * o + f') = 0) →
    wX_allocate_9 post J (nI t) (nI o) (nI n) uc ck dat fre frm cw bas hld lrg lw lu (d + 1) (nI f) := by
  have hp1 : 0 < 2 ^ o := Nat.two_pow_pos o
  have hp8 : 2 ^ o ≤ 8 := Nat.pow_le_pow_right (n := 2) (by decide) (show o ≤ 3 by omega)
  intro d
  induction d with
  | zero =>
    intro f h1 h2 _ h3
    refine br_t (nI_le (by omega) (by omega)) (nm_r (nI_1 o) (hN (fun f' z1 z2 => h3 f' (by omega) z1 z2)))
  | succ d ih =>
    intro f h1 h2 hm h3
    by_cases hlt : f < n
    · have ei : (48 * nI o) + nI f = nI (48 * o + f) := by
        rw [show (48 : Int32) = nI 48 from rfl, pk_mul, nI_add]
      have ec : ((48 * nI o) + nI f).toNatClampNeg = 48 * o + f := by rw [ei]; exact nI_clamp (by omega)
      have hin : vp_in ((48 * nI o) + nI f) 192 := by rw [ei]; exact vp_in_nI (by omega) (by omega)
      refine br_f (nI_ge hlt (by omega)) ⟨hin, ?_⟩
      rw [ec]
      by_cases hz : fre (48 * o + f) = 0
      · refine br_t hz (nm_r (e' := nI (f + 2 ^ o)) (by rw [zq_pw o ho, nI_add]) (ih (f + 2 ^ o) (by omega) (by omega) ?_ (fun f' z1 z2 z3 => ?_)))
        · rw [Nat.add_mod_right]; exact hm
        · by_cases z4 : f' < f
          · exact h3 f' z4 z2 z3
          · have : f' = f := by
              have e1 := Nat.div_add_mod f (2 ^ o)
              have e2 := Nat.div_add_mod f' (2 ^ o)
              rw [hm] at e1
              rw [z3] at e2
              by_cases z5 : f' / 2 ^ o = f / 2 ^ o
              · rw [z5] at e2; omega
              · exfalso
                have h5 : f / 2 ^ o + 1 ≤ f' / 2 ^ o := by
                  have : f / 2 ^ o ≤ f' / 2 ^ o := Nat.div_le_div_right (by omega)
                  omega
                have h6 := Nat.mul_le_mul_left (2 ^ o) h5
                rw [Nat.mul_add] at h6
                omega
            rw [this]; exact hz
      · refine br_f hz ⟨hin, nm_r (e' := upd fre (48 * o + f) 0) rfl (hF f hlt hz)⟩
    · refine br_t (nI_le (by omega) (by omega)) (nm_r (nI_1 o) (hN (fun f' z1 z2 => h3 f' (by omega) z1 z2)))
theorem zq_alloc {t c : Nat} {g : Nat → Nat} (hn : n ≤ 48) (ht : t < 4) (hc : 192 ≤ c) (hb : zq_BU n fre g)
    (hN : (∀ o a, t ≤ o → o < 4 → a < 48 → fre (48 * o + a) = 0) → post (-1) (nI n, uc, ck, dat, fre, frm, cw, bas, hld, lrg, lw, lu))
    (hS : ∀ a fre' g', a % 2 ^ t = 0 → a + 2 ^ t ≤ n → (∀ f, a ≤ f → f < a + 2 ^ t → g f < 192) → zq_BU n fre' g' → (∀ f, a ≤ f → f < a + 2 ^ t → g' f = c) → zq_K n g g' a (2 ^ t) → post (nI a) (nI n, uc, ck, dat, fre', frm, cw, bas, hld, lrg, lw, lu)) :
    wpX_allocate post (nI n, uc, ck, dat, fre, frm, cw, bas, hld, lrg, lw, lu) (nI t) := by
  have hA : ∀ (d o : Nat), o + d = 4 → t ≤ o → (∀ o', t ≤ o' → o' < o → ∀ f, f < n → f % 2 ^ o' = 0 → fre (48 * o' + f) = 0) →
      wX_allocate_2 post (nI t) (nI n) uc ck dat fre frm cw bas hld lrg lw lu (d + 1) (nI o) := by
    intro d
    induction d with
    | zero =>
      intro o ho h1 h2
      have : o = 4 := by omega
      subst this
      refine br_t (show (3 : Int32) < 4 by decide) (hN (fun o a z1 z2 z3 => ?_))
      by_cases z : fre (48 * o + a) = 0
      · exact z
      · have hz := hb.1 o a z2 z3 z
        have := Nat.two_pow_pos o
        exact h2 o z1 z2 a (by omega) hz.1
    | succ d ih =>
      intro o ho h1 h2
      refine br_f (show ¬ (3 : Int32) < nI o from nI_nlt (a := 3) (b := o) (by omega) (by omega)) ⟨n + 1, ?_⟩
      refine zq_al9 hn (by omega) (fun f hf hz => ?_) (fun hz => ih (o + 1) (by omega) (by omega) (fun o' z1 z2 => ?_)) n 0 (by omega) (by omega) (Nat.zero_mod _) (fun f' z => absurd z (Nat.not_lt_zero f'))
      · have hbz := hb.1 o f (by omega) (by omega) hz
        refine nm_e ⟨o - t + 1, zq_split (n := n) (a := f) (t := t) hn hc (o - t) o _ (zq_gp g f (2 ^ o) c) (by omega) (by omega) (zq_rem hb (by omega) (by omega) hz hc) hbz.1 hbz.2.1 (fun f' z1 z2 => zq_gpi ⟨z1, z2⟩) (fun fre' g' hb' h3 h4 => ?_)⟩
        have hle : 2 ^ t ≤ 2 ^ o := Nat.pow_le_pow_right (by decide) h1
        refine hS f fre' g' ?_ (by omega) (fun f' z1 z2 => ?_) hb' h3 (fun f' z1 z2 => ?_)
        · exact Nat.mod_eq_zero_of_dvd (Nat.dvd_trans (Nat.pow_dvd_pow 2 h1) (Nat.dvd_of_mod_eq_zero hbz.1))
        · rw [hbz.2.2 f' z1 (by omega)]; omega
        · have h5 := h4 f' z2
          by_cases z3 : f ≤ f' ∧ f' < f + 2 ^ o
          · have h6 := h5.2 z3
            have h7 := hbz.2.2 f' z3.1 z3.2
            exact ⟨fun z4 => by omega, fun _ => h6⟩
          · have h6 := h5.1 z3
            rw [zq_gpo z3] at h6
            rw [h6]
            exact ⟨fun _ => rfl, fun z => z⟩
      · by_cases z3 : o' < o
        · exact h2 o' z1 z3
        · have : o' = o := by omega
          subst this
          exact hz
  exact ⟨4 - t + 1, hA (4 - t) t (by omega) (Nat.le_refl t) (fun o' z1 z2 => by omega)⟩
end
section
variable {post : SX → Prop} {n : Nat} {uc ck : Int32} {dat frm cw bas hld lrg lw lu : Nat → Int32}
theorem zq_gb83 {fre : Nat → Int32} {g : Nat → Nat} {s o : Nat} (hn : n ≤ 48) (ho : o < 4) (hb : zq_BU n fre g) (hm : s % 2 ^ o = 0) (hl : s + 2 ^ o ≤ n) (hg : ∀ f, s ≤ f → f < s + 2 ^ o → 192 ≤ g f)
    (h : ∀ fre' g', zq_BU n fre' g' → (∀ f, s ≤ f → f < s + 2 ^ o → g' f < 192) → zq_K n g g' s (2 ^ o) → post (nI n, uc, ck, dat, fre', frm, cw, bas, hld, lrg, lw, lu)) :
    wX_giveBack_83 post (nI s) (nI o) (nI n) uc ck dat fre frm cw bas hld lrg lw lu := by
  have hp1 : 0 < 2 ^ o := Nat.two_pow_pos o
  have ei : (48 * nI o) + nI s = nI (48 * o + s) := by
    rw [show (48 : Int32) = nI 48 from rfl, pk_mul, nI_add]
  refine ⟨by rw [ei]; exact vp_in_nI (by omega) (by omega), nm_r (e' := upd fre (48 * o + s) 1) (by rw [ei, nI_clamp (by omega)]; rfl) ?_⟩
  refine h _ _ (zq_add hb ho (by omega) hm hl hg) (fun f z1 z2 => ?_) (fun f z1 z2 => ?_)
  · rw [zq_gpi ⟨z1, z2⟩]; omega
  · rw [zq_gpo z2]
    exact ⟨fun _ => rfl, fun z => z⟩
theorem zq_gb8 (h8 : n % 8 = 0) (hn : n ≤ 48) : ∀ (d o k s : Nat) (fre : Nat → Int32) (g : Nat → Nat), o + d = 3 → k ≤ o → zq_BU n fre g → s % 2 ^ o = 0 → s + 2 ^ o ≤ n → (∀ f, s ≤ f → f < s + 2 ^ o → 192 ≤ g f) →
    (∀ fre' g', zq_BU n fre' g' → (∀ f, s ≤ f → f < s + 2 ^ o → g' f < 192) → zq_K n g g' s (2 ^ o) → post (nI n, uc, ck, dat, fre', frm, cw, bas, hld, lrg, lw, lu)) →
    wX_giveBack_8 post (nI n) uc ck (d + 1) (nI s) (nI o) (nI k) dat fre frm cw bas hld lrg lw lu := by
  intro d
  induction d with
  | zero =>
    intro o k s fre g hd hk hb hm hl hg h
    have h83 := zq_gb83 hn (by omega) hb hm hl hg h
    refine pk_le 3 k (fun _ => h83) (fun _ => pk_le 3 o (fun _ => h83) (fun z => by omega))
  | succ d ih =>
    intro o k s fre g hd hk hb hm hl hg h
    have h83 := zq_gb83 hn (by omega) hb hm hl hg h
    have hp1 : 0 < 2 ^ o := Nat.two_pow_pos o
    have hs48 : s < 48 := by omega
    refine pk_le 3 k (fun _ => h83) (fun _ => pk_le 3 o (fun _ => h83) (fun ho => ?_))
    have hpw : 2 ^ (o + 1) = 2 ^ o + 2 ^ o := by rw [Nat.pow_succ]; omega
    obtain ⟨q, hq, hq1, hq2⟩ : ∃ q, nI s ^^^ ((1 : Int32) <<< (nI o &&& 31)) = nI q ∧ q + 2 ^ o ≤ n ∧ ((q = s + 2 ^ o ∧ s % 2 ^ (o + 1) = 0) ∨ (s = q + 2 ^ o ∧ q % 2 ^ (o + 1) = 0)) := by
      refine ⟨_, by rw [zq_pw o (by omega), zq_xor o ho s hs48 hm], ?_⟩
      have h3 : o = 0 ∨ o = 1 ∨ o = 2 := by omega
      rcases h3 with rfl | rfl | rfl
      · by_cases z : s % 2 ^ (0 + 1) = 0
        · rw [if_pos z]; omega
        · rw [if_neg z]; omega
      · by_cases z : s % 2 ^ (1 + 1) = 0
        · rw [if_pos z]; omega
        · rw [if_neg z]; omega
      · by_cases z : s % 2 ^ (2 + 1) = 0
        · rw [if_pos z]; omega
        · rw [if_neg z]; omega
    have ei : (48 * nI o) + nI q = nI (48 * o + q) := by
      rw [show (48 : Int32) = nI 48 from rfl, pk_mul, nI_add]
    have ec : ((48 * nI o) + nI q).toNatClampNeg = 48 * o + q := by rw [ei]; exact nI_clamp (by omega)
    have hin : vp_in ((48 * nI o) + nI q) 192 := by rw [ei]; exact vp_in_nI (by omega) (by omega)
    refine nm_r hq ⟨hin, ?_⟩
    rw [ec]
    by_cases hz : fre (48 * o + q) = 0
    · exact br_t hz h83
    · refine br_f hz ⟨hin, nm_r (e' := upd fre (48 * o + q) 0) rfl ?_⟩
      have hrem := zq_rem (c := 192) hb (by omega) (by omega) hz (Nat.le_refl 192)
      have hbz := hb.1 o q (by omega) (by omega) hz
      have hK : ∀ s', s' = min s q → ∀ fre' g', zq_BU n fre' g' → (∀ f, s' ≤ f → f < s' + 2 ^ (o + 1) → g' f < 192) → zq_K n (zq_gp g q (2 ^ o) 192) g' s' (2 ^ (o + 1)) → post (nI n, uc, ck, dat, fre', frm, cw, bas, hld, lrg, lw, lu) := by
        intro s' es fre' g' hb' h1 h2
        refine h fre' g' hb' (fun f z1 z2 => h1 f (by omega) (by omega)) (fun f z1 z2 => ?_)
        by_cases z3 : q ≤ f ∧ f < q + 2 ^ o
        · have h7 := hbz.2.2 f z3.1 z3.2
          have h8 := h1 f (by omega) (by omega)
          exact ⟨fun z4 => by omega, fun _ => h8⟩
        · have h9 := h2 f z1 (by omega)
          rw [zq_gpo z3] at h9
          exact h9
      have hG : ∀ s', s' = min s q → ∀ f, s' ≤ f → f < s' + 2 ^ (o + 1) → 192 ≤ zq_gp g q (2 ^ o) 192 f := by
        intro s' es f z1 z2
        by_cases z3 : q ≤ f ∧ f < q + 2 ^ o
        · rw [zq_gpi z3]; exact Nat.le_refl 192
        · rw [zq_gpo z3]; exact hg f (by omega) (by omega)
      refine pk_le q s (fun hle => ?_) (fun hlt => ?_)
      · exact nm_r (nI_1 o) (nm_r (nI_1 k) (ih (o + 1) (k + 1) q _ _ (by omega) (by omega) hrem (by omega) (by omega) (hG q (by omega)) (hK q (by omega))))
      · exact nm_r (nI_1 o) (nm_r (nI_1 k) (ih (o + 1) (k + 1) s _ _ (by omega) (by omega) hrem (by omega) (by omega) (hG s (by omega)) (hK s (by omega))))
theorem zq_give {fre : Nat → Int32} {g : Nat → Nat} {s o : Nat} (h8 : n % 8 = 0) (hn : n ≤ 48) (ho : o < 4) (hb : zq_BU n fre g) (hm : s % 2 ^ o = 0) (hl : s + 2 ^ o ≤ n) (hg : ∀ f, s ≤ f → f < s + 2 ^ o → 192 ≤ g f)
    (h : ∀ fre' g', zq_BU n fre' g' → (∀ f, s ≤ f → f < s + 2 ^ o → g' f < 192) → zq_K n g g' s (2 ^ o) → post (nI n, uc, ck, dat, fre', frm, cw, bas, hld, lrg, lw, lu)) :
    wpX_giveBack post (nI n, uc, ck, dat, fre, frm, cw, bas, hld, lrg, lw, lu) (nI s) (nI o) :=
  ⟨3 - o + 1, zq_gb8 h8 hn (3 - o) o 0 s fre g (by omega) (Nat.zero_le o) hb hm hl hg h⟩
end
end
section
/-! the relation -/
def zq_eB (x : Nat) : Int32 := if x = 99 then -1 else nI x
theorem zq_eBn : zq_eB 99 = -1 := if_pos rfl
theorem zq_eBy {x : Nat} (h : x ≠ 99) : zq_eB x = nI x := if_neg h
def zq_A (n : Nat) (g B F : Nat → Nat) (th : Nat → Int32) : Prop :=
  (∀ b, b < 16 → B b = 99 ∨ (B b % 4 = 0 ∧ B b + 4 ≤ n ∧ ∀ f, B b ≤ f → f < B b + 4 → g f = 200 + b)) ∧
  (∀ f b, f < n → b < 16 → g f = 200 + b → B b ≤ f ∧ f < B b + 4) ∧
  (∀ p, p < 64 → th p ≠ 0 → F p < n ∧ (B (p / 4) = 99 → g (F p) = 300 + p) ∧ (B (p / 4) ≠ 99 → F p = B (p / 4) + p % 4)) ∧
  (∀ f p, f < n → p < 64 → g f = 300 + p → th p ≠ 0 ∧ B (p / 4) = 99 ∧ F p = f) ∧
  (∀ f, f < n → g f < 192 ∨ (200 ≤ g f ∧ g f < 216) ∨ (300 ≤ g f ∧ g f < 364))
def zq_A6 (B : Nat → Nat) (th : Nat → Int32) : Prop := ∀ b, b < 16 → zq_H th b = 0 → B b = 99
def zq_X (B F : Nat → Nat) (uc : Int32) (dat frm cw bas hld lrg lw th op co : Nat → Int32) : Prop :=
  zq_01 th ∧ zq_01 op ∧ uc = nI (zq_c th 64) ∧
  (∀ b, b < 16 → bas b = zq_eB (B b)) ∧
  (∀ b, b < 16 → hld b = zq_H th b) ∧
  (∀ p, p < 64 → th p ≠ 0 → lrg (p / 4) = 0 → frm p = nI (F p) ∧ cw p = op p) ∧
  (∀ b, b < 16 → lrg b ≠ 0 → B b ≠ 99 ∧ zq_H th b = 15 ∧ ∀ j, j < 4 → lw b = op (4 * b + j)) ∧
  (∀ p, p < 64 → th p ≠ 0 → dat (F p) = co p)
def zq_R (n : Nat) (uc : Int32) (dat fre frm cw bas hld lrg lw th op co : Nat → Int32) : Prop :=
  n % 8 = 0 ∧ 8 ≤ n ∧ n ≤ 48 ∧ ∃ g B F : Nat → Nat, zq_BU n fre g ∧ zq_A n g B F th ∧ zq_A6 B th ∧ zq_X B F uc dat frm cw bas hld lrg lw th op co
theorem zq_inj {n : Nat} {g B F : Nat → Nat} {th : Nat → Int32} (A : zq_A n g B F th) : ∀ p q, p < 64 → q < 64 → th p ≠ 0 → th q ≠ 0 → F p = F q → p = q := by
  intro p q hp hq tp tq e
  obtain ⟨A1, A2, A3, A4, A5⟩ := A
  have p3 := A3 p hp tp
  have q3 := A3 q hq tq
  have p1 := A1 (p / 4) (by omega)
  have q1 := A1 (q / 4) (by omega)
  by_cases bp : B (p / 4) = 99
  · have g1 := p3.2.1 bp
    by_cases bq : B (q / 4) = 99
    · have g2 := q3.2.1 bq
      rw [e] at g1
      omega
    · have g2 := q3.2.2 bq
      have g3 := (q1.resolve_left bq).2.2 (F q) (by omega) (by omega)
      rw [e] at g1
      omega
  · have g1 := p3.2.2 bp
    have g4 := (p1.resolve_left bp).2.2 (F p) (by omega) (by omega)
    by_cases bq : B (q / 4) = 99
    · have g2 := q3.2.1 bq
      rw [e] at g4
      omega
    · have g2 := q3.2.2 bq
      have g3 := (q1.resolve_left bq).2.2 (F q) (by omega) (by omega)
      rw [e] at g4
      have e4 : p / 4 = q / 4 := by omega
      rw [e4] at g1
      omega
section
variable {post : Int32 → Prop} {n : Nat} {fc uc ck : Int32} {dat fre frm cw bas hld lrg lw lu th op co : Nat → Int32} {g B F : Nat → Nat} {p : Nat}
theorem zq_has' (h01 : zq_01 th) (hh : ∀ b, b < 16 → hld b = zq_H th b) (hp : p < 64) (h : post (th p)) : wpX_has post (fc, uc, ck, dat, fre, frm, cw, bas, hld, lrg, lw, lu) (nI p) := by
  unfold wpX_has
  dsimp only
  rw [zq_sh hp, zq_an hp, nI_clamp (show p / 4 < 2 ^ 31 by omega), hh (p / 4) (by omega), zq_bit h01 (by omega) (by omega), zq_pg]
  refine ⟨vp_in_nI (by omega) (by omega), ?_⟩
  rcases h01 p hp with e | e
  · rw [e] at h ⊢
    exact br_f (by decide) h
  · rw [e] at h ⊢
    exact br_t rfl h
theorem zq_has (R : zq_R n uc dat fre frm cw bas hld lrg lw th op co) (hp : p < 64) (h : post (th p)) : wpX_has post (nI n, uc, ck, dat, fre, frm, cw, bas, hld, lrg, lw, lu) (nI p) := by
  obtain ⟨_, _, _, g, B, F, _, _, _, X1, _, _, _, X5, _⟩ := R
  exact zq_has' X1 X5 hp h
theorem zq_may (X : zq_X B F uc dat frm cw bas hld lrg lw th op co) (hp : p < 64) (tp : th p ≠ 0) (h : post (op p)) : wpX_mayWrite post (fc, uc, ck, dat, fre, frm, cw, bas, hld, lrg, lw, lu) (nI p) := by
  obtain ⟨X1, X2, X3, X4, X5, X6, X7, X8⟩ := X
  unfold wpX_mayWrite
  dsimp only
  rw [zq_sh hp, nI_clamp (show p / 4 < 2 ^ 31 by omega), nI_clamp (show p < 2 ^ 31 by omega)]
  have hin : vp_in (nI (p / 4)) 16 := vp_in_nI (by omega) (by omega)
  refine ⟨hin, ?_⟩
  by_cases hl : lrg (p / 4) = 0
  · have e := (X6 p hp tp hl).2
    rw [e]
    exact br_t hl ⟨vp_in_nI hp (by omega), zq_nb (X2 p hp), h⟩
  · have e := (X7 (p / 4) (by omega) hl).2.2 (p % 4) (by omega)
    rw [zq_pg] at e
    rw [e]
    exact br_f hl ⟨hin, zq_nb (X2 p hp), h⟩
theorem zq_mayR (R : zq_R n uc dat fre frm cw bas hld lrg lw th op co) (hp : p < 64) (tp : th p ≠ 0) (h : post (op p)) : wpX_mayWrite post (nI n, uc, ck, dat, fre, frm, cw, bas, hld, lrg, lw, lu) (nI p) := by
  obtain ⟨_, _, _, g, B, F, _, _, _, X⟩ := R
  exact zq_may X hp tp h
theorem zq_tr (A : zq_A n g B F th) (X : zq_X B F uc dat frm cw bas hld lrg lw th op co) (hp : p < 64) (tp : th p ≠ 0) (h : post (nI (F p))) : wpX_translate post (fc, uc, ck, dat, fre, frm, cw, bas, hld, lrg, lw, lu) (nI p) := by
  obtain ⟨X1, X2, X3, X4, X5, X6, X7, X8⟩ := X
  unfold wpX_translate
  dsimp only
  refine nm_r (zq_sh hp) ?_
  rw [nI_clamp (show p / 4 < 2 ^ 31 by omega), nI_clamp (show p < 2 ^ 31 by omega), zq_an hp]
  have hin : vp_in (nI (p / 4)) 16 := vp_in_nI (by omega) (by omega)
  refine ⟨hin, ?_⟩
  by_cases hl : lrg (p / 4) = 0
  · have e := (X6 p hp tp hl).1
    rw [e]
    exact br_t hl ⟨vp_in_nI hp (by omega), h⟩
  · have hB := (X7 (p / 4) (by omega) hl).1
    have e := (A.2.2.1 p hp tp).2.2 hB
    refine br_f hl ⟨hin, ?_⟩
    rw [X4 (p / 4) (by omega), zq_eBy hB, nI_add, ← e]
    exact h
theorem zq_con (hn : n ≤ 48) (A : zq_A n g B F th) (X : zq_X B F uc dat frm cw bas hld lrg lw th op co) (hp : p < 64) (tp : th p ≠ 0) (h : post (co p)) : wpX_content post (fc, uc, ck, dat, fre, frm, cw, bas, hld, lrg, lw, lu) (nI p) := by
  unfold wpX_content
  dsimp only
  have hF := (A.2.2.1 p hp tp).1
  refine zq_tr A X hp tp ⟨vp_in_nI (by omega) (by omega), ?_⟩
  rw [nI_clamp (by omega), X.2.2.2.2.2.2.2 p hp tp]
  exact h
theorem zq_conR (R : zq_R n uc dat fre frm cw bas hld lrg lw th op co) (hp : p < 64) (tp : th p ≠ 0) (h : post (co p)) : wpX_content post (nI n, uc, ck, dat, fre, frm, cw, bas, hld, lrg, lw, lu) (nI p) := by
  obtain ⟨_, _, hn, g, B, F, _, A, _, X⟩ := R
  exact zq_con hn A X hp tp h
end
section
variable {post : SX → Prop} {n : Nat} {fc uc ck : Int32} {dat fre frm cw bas hld lrg lw lu th op co : Nat → Int32} {g B F : Nat → Nat} {p : Nat}
theorem zq_use {b : Nat} (hb : b < 16) (h : ∀ ck' lu', post (fc, uc, ck', dat, fre, frm, cw, bas, hld, lrg, lw, lu')) : wpX_use post (fc, uc, ck, dat, fre, frm, cw, bas, hld, lrg, lw, lu) (nI b) := by
  unfold wpX_use
  dsimp only
  exact nm_e ⟨vp_in_nI hb (by omega), nm_e (h _ _)⟩
theorem zq_setc {x : Int32} (A : zq_A n g B F th) (X : zq_X B F uc dat frm cw bas hld lrg lw th op co) (hp : p < 64) (tp : th p ≠ 0) : zq_X B F uc (upd dat (F p) x) frm cw bas hld lrg lw th op (upd co p x) := by
  obtain ⟨X1, X2, X3, X4, X5, X6, X7, X8⟩ := X
  refine ⟨X1, X2, X3, X4, X5, X6, X7, fun q hq tq => ?_⟩
  by_cases e : q = p
  · rw [e, pk_us, pk_us]
  · rw [pk_un e, pk_un (fun z => e (zq_inj A q p hq hp tq tp z))]
    exact X8 q hq tq
theorem zq_setC {x : Int32} (R : zq_R n uc dat fre frm cw bas hld lrg lw th op co) (hp : p < 64) (tp : th p ≠ 0)
    (h : ∀ ck' dat' lu', zq_R n uc dat' fre frm cw bas hld lrg lw th op (upd co p x) → post (nI n, uc, ck', dat', fre, frm, cw, bas, hld, lrg, lw, lu')) :
    wpX_setContent post (nI n, uc, ck, dat, fre, frm, cw, bas, hld, lrg, lw, lu) (nI p) x := by
  obtain ⟨h8, h0, hn, g, B, F, U, A, A6, X⟩ := R
  have hF := (A.2.2.1 p hp tp).1
  unfold wpX_setContent
  dsimp only
  refine zq_tr A X hp tp ⟨vp_in_nI (by omega) (by omega), nm_r (e' := upd dat (F p) x) (by rw [nI_clamp (by omega)]) ?_⟩
  rw [zq_sh hp]
  exact zq_use (by omega) (fun ck' lu' => h ck' _ lu' ⟨h8, h0, hn, g, B, F, U, A, A6, zq_setc A X hp tp⟩)
end
end
section
/-! large mappings: break up, join up, protect a page -/
section
variable {post : SX → Prop} {n : Nat} {fc uc ck : Int32} {dat fre bas hld lrg lw lu th op co : Nat → Int32} {g B F : Nat → Nat}
theorem zq_ix4 {b k : Nat} : (4 * nI b) + nI k = nI (4 * b + k) := by
  rw [show (4 : Int32) = nI 4 from rfl, pk_mul, nI_add]
theorem zq_brk12 {b B0 : Nat} {w : Int32} {frm0 cw0 : Nat → Int32} (hb : b < 16) (hB : bas b = nI B0) (hw : lw b = w) (h01 : w = 0 ∨ w = 1)
    (h : ∀ frm' cw', (∀ j, j < 4 → frm' (4 * b + j) = nI (B0 + j) ∧ cw' (4 * b + j) = w) → (∀ q, q / 4 ≠ b → frm' q = frm0 q ∧ cw' q = cw0 q) → post (fc, uc, ck, dat, fre, frm', cw', bas, hld, upd lrg b 0, lw, lu)) :
    ∀ (d k : Nat) (frm cw : Nat → Int32), k + d = 4 → (∀ j, j < k → frm (4 * b + j) = nI (B0 + j) ∧ cw (4 * b + j) = w) → (∀ q, q / 4 ≠ b → frm q = frm0 q ∧ cw q = cw0 q) →
    wX_breakUp_12 post (nI b) fc uc ck (d + 1) (nI k) dat fre frm cw bas hld lrg lw lu := by
  have hin : vp_in (nI b) 16 := vp_in_nI hb (by omega)
  have ec : (nI b).toNatClampNeg = b := nI_clamp (by omega)
  intro d
  induction d with
  | zero =>
    intro k frm cw hk h1 h2
    have : k = 4 := by omega
    subst this
    exact br_t (show (4 : Int32) ≤ nI 4 by decide) ⟨hin, nm_r (e' := upd lrg b 0) (by rw [ec]; rfl) (h frm cw h1 h2)⟩
  | succ d ih =>
    intro k frm cw hk h1 h2
    have hik : vp_in ((4 * nI b) + nI k) 64 := by rw [zq_ix4]; exact vp_in_nI (by omega) (by omega)
    have eck : ((4 * nI b) + nI k).toNatClampNeg = 4 * b + k := by rw [zq_ix4]; exact nI_clamp (by omega)
    refine br_f (nI_ge (b := 4) (by omega) (by omega)) ⟨hin, hik, nm_r (e' := upd frm (4 * b + k) (nI (B0 + k))) (by rw [eck, ec, hB, nI_add]) ⟨hin, hik, nm_r (e' := upd cw (4 * b + k) w) (by rw [eck, ec, hw, zq_vb h01]) (nm_r (nI_1 k) (ih (k + 1) _ _ (by omega) (fun j hj => ?_) (fun q hq => ?_)))⟩⟩
    · by_cases e : j = k
      · rw [e, pk_us, pk_us]; exact ⟨rfl, rfl⟩
      · rw [pk_un (by omega), pk_un (by omega)]
        exact h1 j (by omega)
    · rw [pk_un (by omega), pk_un (by omega)]
      exact h2 q hq
theorem zq_break {b : Nat} {frm cw : Nat → Int32} (R : zq_R n uc dat fre frm cw bas hld lrg lw th op co) (hb : b < 16)
    (h : ∀ frm' cw' lrg', zq_R n uc dat fre frm' cw' bas hld lrg' lw th op co → lrg' b = 0 → post (nI n, uc, ck, dat, fre, frm', cw', bas, hld, lrg', lw, lu)) :
    wpX_breakUp post (nI n, uc, ck, dat, fre, frm, cw, bas, hld, lrg, lw, lu) (nI b) := by
  have R0 := R
  obtain ⟨h8, h0, hn, g, B, F, U, A, A6, X1, X2, X3, X4, X5, X6, X7, X8⟩ := R
  unfold wpX_breakUp
  dsimp only
  rw [nI_clamp (show b < 2 ^ 31 by omega)]
  refine ⟨vp_in_nI hb (by omega), ?_⟩
  by_cases hl : lrg b = 0
  · exact br_t hl (h frm cw lrg R0 hl)
  · have x7 := X7 b hb hl
    have hw : lw b = op (4 * b) := x7.2.2 0 (by omega)
    refine br_f hl ⟨5, zq_brk12 (frm0 := frm) (cw0 := cw) (B0 := B b) (w := lw b) hb ((X4 b hb).trans (zq_eBy x7.1)) rfl (by rw [hw]; exact X2 (4 * b) (by omega)) (fun frm' cw' h1 h2 => h frm' cw' _ ?_ pk_us) 4 0 frm cw (by omega) (fun j hj => absurd hj (Nat.not_lt_zero j)) (fun q _ => ⟨rfl, rfl⟩)⟩
    refine ⟨h8, h0, hn, g, B, F, U, A, A6, X1, X2, X3, X4, X5, fun p hp tp hlp => ?_, fun b' hb' hl' => ?_, X8⟩
    · by_cases e : p / 4 = b
      · have z := h1 (p % 4) (by omega)
        rw [← e, zq_pg] at z
        refine ⟨z.1.trans (congrArg nI ?_), z.2.trans ?_⟩
        · exact ((A.2.2.1 p hp tp).2.2 (by rw [e]; exact x7.1)).symm
        · have z2 := x7.2.2 (p % 4) (by omega)
          rw [← e, zq_pg] at z2
          exact z2
      · rw [pk_un e] at hlp
        rw [(h2 p e).1, (h2 p e).2]
        exact X6 p hp tp hlp
    · by_cases e : b' = b
      · rw [e, pk_us] at hl'
        exact absurd rfl hl'
      · rw [pk_un e] at hl'
        exact X7 b' hb' hl'
theorem zq_jn89 {b : Nat} {frm0 cw : Nat → Int32} (hb : b < 16)
    (h : ∀ frm', (∀ q, q / 4 ≠ b → frm' q = frm0 q) → post (fc, uc, ck, dat, fre, frm', cw, bas, hld, lrg, lw, lu)) :
    ∀ (d k : Nat) (frm : Nat → Int32), k + d = 4 → (∀ q, q / 4 ≠ b → frm q = frm0 q) →
    wX_joinUp_89 post (nI b) fc uc ck (d + 1) (nI k) dat fre frm cw bas hld lrg lw lu := by
  intro d
  induction d with
  | zero =>
    intro k frm hk h1
    have : k = 4 := by omega
    subst this
    exact br_t (show (4 : Int32) ≤ nI 4 by decide) (h frm h1)
  | succ d ih =>
    intro k frm hk h1
    have hik : vp_in ((4 * nI b) + nI k) 64 := by rw [zq_ix4]; exact vp_in_nI (by omega) (by omega)
    have eck : ((4 * nI b) + nI k).toNatClampNeg = 4 * b + k := by rw [zq_ix4]; exact nI_clamp (by omega)
    refine br_f (nI_ge (b := 4) (by omega) (by omega)) ⟨hik, nm_r (e' := upd frm (4 * b + k) (-1)) (by rw [eck]) (nm_r (nI_1 k) (ih (k + 1) _ (by omega) (fun q hq => ?_)))⟩
    rw [pk_un (by omega)]
    exact h1 q hq
theorem zq_jn33 {b : Nat} {frm cw : Nat → Int32} (hb : b < 16) (h01 : cw (4 * b) = 0 ∨ cw (4 * b) = 1)
    (hE : (∀ j, j < 4 → cw (4 * b + j) = cw (4 * b)) → ∀ frm', (∀ q, q / 4 ≠ b → frm' q = frm q) → post (fc, uc, ck, dat, fre, frm', cw, bas, hld, upd lrg b 1, upd lw b (cw (4 * b)), lu))
    (hX : post (fc, uc, ck, dat, fre, frm, cw, bas, hld, lrg, lw, lu)) :
    ∀ (d k : Nat), k + d = 4 → (∀ j, j < k → cw (4 * b + j) = cw (4 * b)) →
    wX_joinUp_33 post (nI b) fc uc ck dat fre frm cw bas hld lrg lw lu (d + 1) (nI k) := by
  have hin : vp_in (nI b) 16 := vp_in_nI hb (by omega)
  have ec : (nI b).toNatClampNeg = b := nI_clamp (by omega)
  have e4 : 4 * nI b = nI (4 * b) := by rw [show (4 : Int32) = nI 4 from rfl, pk_mul]
  have hi4 : vp_in (4 * nI b) 64 := by rw [e4]; exact vp_in_nI (by omega) (by omega)
  have ec4 : (4 * nI b).toNatClampNeg = 4 * b := by rw [e4]; exact nI_clamp (by omega)
  intro d
  induction d with
  | zero =>
    intro k hk h1
    have : k = 4 := by omega
    subst this
    refine br_t (show (4 : Int32) ≤ nI 4 by decide) ⟨hin, nm_r (e' := upd lrg b 1) (by rw [ec]; rfl) ⟨hi4, hin, nm_r (e' := upd lw b (cw (4 * b))) (by rw [ec, ec4, zq_vb h01]) ⟨5, ?_⟩⟩⟩
    exact zq_jn89 (frm0 := frm) hb (fun frm' z => hE h1 frm' z) 4 0 frm (by omega) (fun _ _ => rfl)
  | succ d ih =>
    intro k hk h1
    have hik : vp_in ((4 * nI b) + nI k) 64 := by rw [zq_ix4]; exact vp_in_nI (by omega) (by omega)
    have eck : ((4 * nI b) + nI k).toNatClampNeg = 4 * b + k := by rw [zq_ix4]; exact nI_clamp (by omega)
    refine br_f (nI_ge (b := 4) (by omega) (by omega)) ⟨hik, hi4, ?_⟩
    rw [eck, ec4]
    refine br_c (fun z => nm_r (nI_1 k) (ih (k + 1) (by omega) (fun j hj => ?_))) (fun _ => hX)
    by_cases e : j = k
    · rw [e]; exact z
    · exact h1 j (by omega)
theorem zq_join {b : Nat} {frm cw : Nat → Int32} (R : zq_R n uc dat fre frm cw bas hld lrg lw th op co) (hb : b < 16)
    (h : ∀ frm' lrg' lw', zq_R n uc dat fre frm' cw bas hld lrg' lw' th op co → post (nI n, uc, ck, dat, fre, frm', cw, bas, hld, lrg', lw', lu)) :
    wpX_joinUp post (nI n, uc, ck, dat, fre, frm, cw, bas, hld, lrg, lw, lu) (nI b) := by
  have same := h frm lrg lw R
  obtain ⟨h8, h0, hn, g, B, F, U, A, A6, X1, X2, X3, X4, X5, X6, X7, X8⟩ := R
  unfold wpX_joinUp
  dsimp only
  rw [nI_clamp (show b < 2 ^ 31 by omega)]
  have hin : vp_in (nI b) 16 := vp_in_nI hb (by omega)
  refine ⟨hin, br_c (fun _ => same) (fun hb1 => ⟨hin, br_c (fun h15 => ⟨hin, br_c (fun hl0 => ⟨4, ?_⟩) (fun _ => same)⟩) (fun _ => same)⟩)⟩
  rw [X5 b hb] at h15
  have hB : B b ≠ 99 := fun z => hb1 (by rw [X4 b hb, z, zq_eBn])
  have hop : ∀ j, j < 4 → cw (4 * b + j) = op (4 * b + j) := by
    intro j hj
    have ej : (4 * b + j) / 4 = b := by omega
    exact (X6 (4 * b + j) (by omega) (by rw [(zq_H15 X1 hb).mp h15 j hj]; decide) (by rw [ej]; exact hl0)).2
  have h01 : cw (4 * b) = 0 ∨ cw (4 * b) = 1 := by
    rw [show cw (4 * b) = op (4 * b) from hop 0 (by omega)]
    exact X2 (4 * b) (by omega)
  refine zq_jn33 (frm := frm) hb h01 (fun h1 frm' h2 => h frm' _ _ ?_) same 3 1 (by omega) (fun j hj => by rw [show j = 0 by omega]; rfl)
  refine ⟨h8, h0, hn, g, B, F, U, A, A6, X1, X2, X3, X4, X5, fun p hp tp hlp => ?_, fun b' hb' hl' => ?_, X8⟩
  · by_cases e : p / 4 = b
    · rw [e, pk_us] at hlp
      exact absurd hlp (by decide)
    · rw [pk_un e] at hlp
      rw [h2 p e]
      exact X6 p hp tp hlp
  · by_cases e : b' = b
    · subst e
      rw [pk_us]
      exact ⟨hB, h15, fun j hj => (h1 j hj).symm.trans (hop j hj)⟩
    · rw [pk_un e] at hl' ⊢
      exact X7 b' hb' hl'
theorem zq_setw {p : Nat} {w : Int32} {frm cw : Nat → Int32} (X : zq_X B F uc dat frm cw bas hld lrg lw th op co) (h01 : w = 0 ∨ w = 1) (hl : lrg (p / 4) = 0) :
    zq_X B F uc dat frm (upd cw p w) bas hld lrg lw th (upd op p w) co := by
  obtain ⟨X1, X2, X3, X4, X5, X6, X7, X8⟩ := X
  refine ⟨X1, zq_01u X2 h01, X3, X4, X5, fun q hq tq hlq => ?_, fun b' hb' hl' => ?_, X8⟩
  · by_cases e : q = p
    · subst e
      rw [pk_us, pk_us]
      exact ⟨(X6 q hq tq hlq).1, rfl⟩
    · rw [pk_un e, pk_un e]
      exact X6 q hq tq hlq
  · have x7 := X7 b' hb' hl'
    refine ⟨x7.1, x7.2.1, fun j hj => ?_⟩
    have : 4 * b' + j ≠ p := by
      intro z
      have e : p / 4 = b' := by omega
      rw [e] at hl
      exact hl' hl
    rw [pk_un this]
    exact x7.2.2 j hj
theorem zq_setW29 {p : Nat} {w : Int32} {frm cw : Nat → Int32} (R : zq_R n uc dat fre frm cw bas hld lrg lw th op co) (hp : p < 64) (h01 : w = 0 ∨ w = 1) (hl : lrg (p / 4) = 0)
    (h : ∀ frm' cw' lrg' lw', zq_R n uc dat fre frm' cw' bas hld lrg' lw' th (upd op p w) co → post (nI n, uc, ck, dat, fre, frm', cw', bas, hld, lrg', lw', lu)) :
    wX_setWrite_29 post (nI p) w (nI (p / 4)) (nI n) uc ck dat fre frm cw bas hld lrg lw lu := by
  obtain ⟨h8, h0, hn, g, B, F, U, A, A6, X⟩ := R
  refine ⟨vp_in_nI hp (by omega), nm_r (e' := upd cw p w) (by rw [nI_clamp (by omega), zq_vb h01]) ?_⟩
  exact zq_join ⟨h8, h0, hn, g, B, F, U, A, A6, zq_setw X h01 hl⟩ (by omega) (fun frm' lrg' lw' R' => h frm' _ lrg' lw' R')
theorem zq_setW {p : Nat} {w : Int32} {frm cw : Nat → Int32} (R : zq_R n uc dat fre frm cw bas hld lrg lw th op co) (hp : p < 64) (tp : th p ≠ 0) (h01 : w = 0 ∨ w = 1)
    (h : ∀ frm' cw' lrg' lw', zq_R n uc dat fre frm' cw' bas hld lrg' lw' th (upd op p w) co → post (nI n, uc, ck, dat, fre, frm', cw', bas, hld, lrg', lw', lu)) :
    wpX_setWrite post (nI n, uc, ck, dat, fre, frm, cw, bas, hld, lrg, lw, lu) (nI p) w := by
  unfold wpX_setWrite
  dsimp only
  refine nm_r (zq_sh hp) ?_
  have hin : vp_in (nI (p / 4)) 16 := vp_in_nI (by omega) (by omega)
  rw [nI_clamp (show p / 4 < 2 ^ 31 by omega)]
  refine ⟨hin, br_c (fun hl => zq_setW29 R hp h01 hl h) (fun hl => ⟨hin, br_c (fun he => ?_) (fun _ => ?_)⟩)⟩
  · obtain ⟨_, _, _, g, B, F, _, _, _, X1, X2, X3, X4, X5, X6, X7, X8⟩ := id R
    have e := (X7 (p / 4) (by omega) hl).2.2 (p % 4) (by omega)
    rw [zq_pg] at e
    have e2 : upd op p w = op := zq_uid (e.symm.trans he)
    rw [e2] at h
    exact h frm cw lrg lw R
  · exact zq_break R (by omega) (fun frm' cw' lrg' R' hl' => zq_setW29 R' hp h01 hl' h)
end
end
section
/-! some reservation isn't full when no frame is free and there is room; taking back its empty frames -/
theorem zq_full {n : Nat} {g B F : Nat → Nat} {th : Nat → Int32} (hn : n ≤ 48) (A : zq_A n g B F th) (h01 : zq_01 th) (hg : ∀ f, f < n → 192 ≤ g f) (hc : zq_c th 64 < n) : ∃ b, b < 16 ∧ B b ≠ 99 ∧ zq_H th b ≠ 15 := by
  by_cases hC : ∃ b, b < 16 ∧ B b ≠ 99 ∧ zq_H th b ≠ 15
  · exact hC
  · exfalso
    obtain ⟨A1, A2, A3, A4, A5⟩ := A
    have key : ∀ f, f < n → ∃ p, p < 64 ∧ th p ≠ 0 ∧ F p = f ∧ p = if g f < 300 then 4 * (g f - 200) + (f - B (g f - 200)) else g f - 300 := by
      intro f hf
      have h1 := hg f hf
      rcases A5 f hf with z | z | z
      · omega
      · have z2 := A2 f (g f - 200) hf (by omega) (by omega)
        have hB : B (g f - 200) ≠ 99 := by omega
        have h15 : zq_H th (g f - 200) = 15 := by
          by_cases e : zq_H th (g f - 200) = 15
          · exact e
          · exact absurd ⟨g f - 200, by omega, hB, e⟩ hC
        have ht := (zq_H15 h01 (by omega)).mp h15 (f - B (g f - 200)) (by omega)
        have hq : (4 * (g f - 200) + (f - B (g f - 200))) / 4 = g f - 200 := by omega
        have ht0 : th (4 * (g f - 200) + (f - B (g f - 200))) ≠ 0 := by rw [ht]; decide
        have h3 := (A3 _ (by omega) ht0).2.2 (by rw [hq]; exact hB)
        rw [hq] at h3
        refine ⟨_, by omega, ht0, by omega, (if_pos (by omega)).symm⟩
      · have z2 := A4 f (g f - 300) hf (by omega) (by omega)
        exact ⟨_, by omega, z2.1, z2.2.2, (if_neg (by omega)).symm⟩
    have hp := zq_pig 64 (fun f => if g f < 300 then 4 * (g f - 200) + (f - B (g f - 200)) else g f - 300) n th (fun f hf => by
      obtain ⟨p, h1, h2, h3, h4⟩ := key f hf
      rw [← h4]
      exact ⟨h1, h2⟩) (fun f f' hf hf' e => by
      obtain ⟨p, h1, h2, h3, h4⟩ := key f hf
      obtain ⟨p', h1', h2', h3', h4'⟩ := key f' hf'
      rw [← h4, ← h4'] at e
      rw [← h3, ← h3', e])
    omega
def zq_B9 (B : Nat → Nat) (v a : Nat) : Nat → Nat := fun b => if b = v then a else B b
theorem zq_B9s {B : Nat → Nat} {v a : Nat} : zq_B9 B v a v = a := if_pos rfl
theorem zq_B9n {B : Nat → Nat} {v a b : Nat} (h : b ≠ v) : zq_B9 B v a b = B b := if_neg h
theorem zq_preA {n v : Nat} {g g1 B F : Nat → Nat} {th : Nat → Int32} (hn : n ≤ 48) (A : zq_A n g B F th) (hv : v < 16) (hB : B v ≠ 99) (K : zq_K n g g1 (B v) 4)
    (h1 : ∀ j, j < 4 → (th (4 * v + j) = 0 → g1 (B v + j) < 192) ∧ (th (4 * v + j) ≠ 0 → g1 (B v + j) = 200 + v)) :
    zq_A n (fun f => if B v ≤ f ∧ f < B v + 4 ∧ 192 ≤ g1 f then 300 + (4 * v + (f - B v)) else g1 f) (zq_B9 B v 99) F th := by
  obtain ⟨A1, A2, A3, A4, A5⟩ := A
  have v1 := (A1 v hv).resolve_left hB
  refine ⟨fun b hb => ?_, fun f b hf hb e => ?_, fun p hp tp => ?_, fun f q hf hq e => ?_, fun f hf => ?_⟩
  · by_cases e : b = v
    · rw [e, zq_B9s]; exact Or.inl rfl
    · rw [zq_B9n e]
      rcases A1 b hb with z | z
      · exact Or.inl z
      · refine Or.inr ⟨z.1, z.2.1, fun f f1 f2 => ?_⟩
        have z3 := z.2.2 f f1 f2
        have z4 : ¬ (B v ≤ f ∧ f < B v + 4) := fun y => by
          have := v1.2.2 f y.1 y.2
          omega
        dsimp only
        rw [if_neg (fun y => z4 ⟨y.1, y.2.1⟩), (K f (by omega) z4).1 (by omega)]
        exact z3
  · dsimp only at e
    by_cases c : B v ≤ f ∧ f < B v + 4 ∧ 192 ≤ g1 f
    · rw [if_pos c] at e; omega
    · rw [if_neg c] at e
      have z4 : ¬ (B v ≤ f ∧ f < B v + 4) := by omega
      have k := K f hf z4
      have e2 : g f = 200 + b := by
        by_cases y : g f < 192
        · have := k.2 y; omega
        · rw [← k.1 (by omega)]; exact e
      have z5 := A2 f b hf hb e2
      have ne : b ≠ v := fun y => z4 (by rw [y] at z5; exact z5)
      rw [zq_B9n ne]
      exact z5
  · have a3 := A3 p hp tp
    refine ⟨a3.1, fun e => ?_, fun e => ?_⟩
    · dsimp only
      by_cases ev : p / 4 = v
      · have hF := a3.2.2 (by rw [ev]; exact hB)
        rw [ev] at hF
        have ep : 4 * v + p % 4 = p := by omega
        have h2 := (h1 (p % 4) (by omega)).2 (by rw [ep]; exact tp)
        rw [← hF] at h2
        rw [if_pos (by omega)]
        omega
      · rw [zq_B9n ev] at e
        have h2 := a3.2.1 e
        have z4 : ¬ (B v ≤ F p ∧ F p < B v + 4) := fun y => by
          have := v1.2.2 (F p) y.1 y.2
          omega
        rw [if_neg (fun y => z4 ⟨y.1, y.2.1⟩), (K (F p) a3.1 z4).1 (by omega)]
        exact h2
    · by_cases ev : p / 4 = v
      · rw [ev, zq_B9s] at e
        exact absurd rfl e
      · rw [zq_B9n ev] at e ⊢
        exact a3.2.2 e
  · dsimp only at e
    by_cases c : B v ≤ f ∧ f < B v + 4 ∧ 192 ≤ g1 f
    · rw [if_pos c] at e
      have eq : q = 4 * v + (f - B v) := by omega
      have ev : q / 4 = v := by omega
      have h2 := h1 (f - B v) (by omega)
      rw [show B v + (f - B v) = f by omega, ← eq] at h2
      have tq : th q ≠ 0 := fun y => by have := h2.1 y; omega
      refine ⟨tq, by rw [ev, zq_B9s], ?_⟩
      rw [(A3 q hq tq).2.2 (by rw [ev]; exact hB), ev]
      omega
    · rw [if_neg c] at e
      have z4 : ¬ (B v ≤ f ∧ f < B v + 4) := by omega
      have k := K f hf z4
      have e2 : g f = 300 + q := by
        by_cases y : g f < 192
        · have := k.2 y; omega
        · rw [← k.1 (by omega)]; exact e
      have a4 := A4 f q hf hq e2
      refine ⟨a4.1, ?_, a4.2.2⟩
      by_cases ev : q / 4 = v
      · rw [ev, zq_B9s]
      · rw [zq_B9n ev]; exact a4.2.1
  · dsimp only
    by_cases c : B v ≤ f ∧ f < B v + 4 ∧ 192 ≤ g1 f
    · rw [if_pos c]; omega
    · rw [if_neg c]
      by_cases z4 : B v ≤ f ∧ f < B v + 4
      · exact Or.inl (by omega)
      · have k := K f hf z4
        by_cases y : g f < 192
        · exact Or.inl (k.2 y)
        · rw [k.1 (by omega)]
          exact A5 f hf
section
variable {post : SX → Prop} {n : Nat} {fc uc ck : Int32} {dat frm cw bas hld lrg lw lu th : Nat → Int32} {g0 B F : Nat → Nat}
theorem zq_pre67 {v B0 : Nat} (h8 : n % 8 = 0) (hn : n ≤ 48) (hv : v < 16) (h01 : zq_01 th) (hB : bas v = nI B0) (hl : B0 + 4 ≤ n) (hh : hld v = zq_H th v)
    (h : ∀ fre' g', zq_BU n fre' g' → zq_K n g0 g' B0 4 → (∀ j, j < 4 → (th (4 * v + j) = 0 → g' (B0 + j) < 192) ∧ (th (4 * v + j) ≠ 0 → g' (B0 + j) = 200 + v)) → post (nI n, uc, ck, dat, fre', frm, cw, upd bas v (-1), hld, lrg, lw, lu)) :
    ∀ (d k : Nat) (fre : Nat → Int32) (g : Nat → Nat), k + d = 4 → zq_BU n fre g → zq_K n g0 g B0 4 → (∀ j, j < 4 → (j < k → th (4 * v + j) = 0 → g (B0 + j) < 192) ∧ (¬ (j < k ∧ th (4 * v + j) = 0) → g (B0 + j) = 200 + v)) →
    wX_preempt_67 post (nI v) (d + 1) (nI k) (nI n) uc ck dat fre frm cw bas hld lrg lw lu := by
  have hin : vp_in (nI v) 16 := vp_in_nI hv (by omega)
  have ec : (nI v).toNatClampNeg = v := nI_clamp (by omega)
  intro d
  induction d with
  | zero =>
    intro k fre g hk U K h1
    have : k = 4 := by omega
    subst this
    refine br_t (show (4 : Int32) ≤ nI 4 by decide) ⟨hin, nm_r (e' := upd bas v (-1)) (by rw [ec]) (h fre g U K (fun j hj => ⟨(h1 j hj).1 hj, fun z => (h1 j hj).2 (fun y => z y.2)⟩))⟩
  | succ d ih =>
    intro k fre g hk U K h1
    refine br_f (nI_ge (b := 4) (by omega) (by omega)) ⟨hin, ?_⟩
    rw [ec, hh, zq_bit h01 hv (by omega), hB, nI_add]
    refine br_c (fun tz => ⟨hin, ?_⟩) (fun tz => nm_r (nI_1 k) (ih (k + 1) fre g (by omega) U K (fun j hj => ?_)))
    · refine zq_give (o := 0) h8 hn (by omega) U (by omega) (by omega) (fun f f1 f2 => ?_) (fun fre' g' U' h2 K' => nm_r (nI_1 k) (ih (k + 1) fre' g' (by omega) U' (fun f f1 f2 => ?_) (fun j hj => ?_)))
      · have := (h1 k (by omega)).2 (by omega)
        rw [show f = B0 + k by omega, this]
        omega
      · have k1 := K f f1 f2
        have k2 := K' f f1 (by omega)
        constructor
        · intro z
          have := k1.1 z
          rw [k2.1 (by omega), this]
        · intro z
          exact k2.2 (k1.2 z)
      · by_cases e : j = k
        · subst e
          have := h2 (B0 + j) (by omega) (by omega)
          exact ⟨fun _ _ => this, fun y => absurd ⟨by omega, tz⟩ y⟩
        · have k2 := K' (B0 + j) (by omega) (by omega)
          have h3 := h1 j hj
          constructor
          · intro z1 z2
            exact k2.2 (h3.1 (by omega) z2)
          · intro z
            have := h3.2 (fun y => z ⟨by omega, y.2⟩)
            rw [k2.1 (by omega), this]
    · by_cases e : j = k
      · subst e
        exact ⟨fun _ z => absurd z tz, fun _ => (h1 j hj).2 (fun y => tz y.2)⟩
      · have h3 := h1 j hj
        exact ⟨fun z1 z2 => h3.1 (by omega) z2, fun z => h3.2 (fun y => z ⟨by omega, y.2⟩)⟩
theorem zq_pre4 {fre : Nat → Int32} (hC : ∃ b, b < 16 ∧ bas b ≠ -1 ∧ hld b ≠ 15)
    (h : ∀ v, v < 16 → bas v ≠ -1 → hld v ≠ 15 → ∃ m, wX_preempt_67 post (nI v) m 0 fc uc ck dat fre frm cw bas hld lrg lw lu) :
    ∀ (d i : Nat) (x : Int32), i + d = 16 → ((x = -1 ∧ ∀ b, b < i → bas b = -1 ∨ hld b = 15) ∨ ∃ v, v < 16 ∧ x = nI v ∧ bas v ≠ -1 ∧ hld v ≠ 15) →
    wX_preempt_4 post fc uc ck dat fre frm cw bas hld lrg lw lu (d + 1) x (nI i) := by
  intro d
  induction d with
  | zero =>
    intro i x hi hx
    have : i = 16 := by omega
    subst this
    refine br_t (show (16 : Int32) ≤ nI 16 by decide) ?_
    rcases hx with ⟨_, z⟩ | ⟨v, hv, rfl, z1, z2⟩
    · obtain ⟨b, hb, y1, y2⟩ := hC
      rcases z b hb with y | y
      · exact absurd y y1
      · exact absurd y y2
    · exact br_f (zq_ne1 (by omega)) (h v hv z1 z2)
  | succ d ih =>
    intro i x hi hx
    have hin : vp_in (nI i) 16 := vp_in_nI (by omega) (by omega)
    have keep : (bas i = -1 ∨ hld i = 15) → wX_preempt_4 post fc uc ck dat fre frm cw bas hld lrg lw lu (d + 1) x (nI (i + 1)) := by
      intro y
      refine ih (i + 1) x (by omega) ?_
      rcases hx with ⟨z1, z⟩ | z
      · refine Or.inl ⟨z1, fun b hb => ?_⟩
        by_cases e : b = i
        · rw [e]; exact y
        · exact z b (by omega)
      · exact Or.inr z
    refine br_f (nI_ge (b := 16) (by omega) (by omega)) ⟨hin, ?_⟩
    rw [nI_clamp (show i < 2 ^ 31 by omega)]
    refine br_c (fun y => nm_r (nI_1 i) (keep (Or.inl y))) (fun y1 => ⟨hin, br_c (fun y => nm_r (nI_1 i) (keep (Or.inr y))) (fun y2 => ?_)⟩)
    have new : wX_preempt_4 post fc uc ck dat fre frm cw bas hld lrg lw lu (d + 1) (nI i) (nI (i + 1)) := ih (i + 1) (nI i) (by omega) (Or.inr ⟨i, by omega, rfl, y1, y2⟩)
    refine br_c (fun _ => nm_r (nI_1 i) new) (fun y3 => ?_)
    rcases hx with ⟨z1, _⟩ | ⟨v, hv, rfl, z1, z2⟩
    · exact absurd z1 y3
    · refine ⟨hin, vp_in_nI hv (by omega), br_c (fun _ => nm_r (nI_1 i) ?_) (fun _ => nm_r (nI_1 i) new)⟩
      exact ih (i + 1) (nI v) (by omega) (Or.inr ⟨v, hv, rfl, z1, z2⟩)
theorem zq_preempt {fre : Nat → Int32} {g : Nat → Nat} (h8 : n % 8 = 0) (hn : n ≤ 48) (U : zq_BU n fre g) (A : zq_A n g B F th) (h01 : zq_01 th) (hbas : ∀ b, b < 16 → bas b = zq_eB (B b)) (hhld : ∀ b, b < 16 → hld b = zq_H th b) (hC : ∃ b, b < 16 ∧ B b ≠ 99 ∧ zq_H th b ≠ 15)
    (h : ∀ v fre' g', v < 16 → B v ≠ 99 → zq_H th v ≠ 15 → zq_BU n fre' g' → zq_A n g' (zq_B9 B v 99) F th → (∃ f, f < n ∧ g' f < 192) → post (nI n, uc, ck, dat, fre', frm, cw, upd bas v (-1), hld, lrg, lw, lu)) :
    wpX_preempt post (nI n, uc, ck, dat, fre, frm, cw, bas, hld, lrg, lw, lu) := by
  unfold wpX_preempt
  dsimp only
  have hB99 : ∀ b, b < 16 → bas b ≠ -1 → B b ≠ 99 := fun b hb y z => y (by rw [hbas b hb, z, zq_eBn])
  refine ⟨17, zq_pre4 (fc := nI n) ?_ (fun v hv y1 y2 => ?_) 16 0 (-1) (by omega) (Or.inl ⟨rfl, fun b hb => absurd hb (Nat.not_lt_zero b)⟩)⟩
  · obtain ⟨b, hb, z1, z2⟩ := hC
    refine ⟨b, hb, ?_, by rw [hhld b hb]; exact z2⟩
    rw [hbas b hb, zq_eBy z1]
    have := (A.1 b hb).resolve_left z1
    exact zq_ne1 (by omega)
  · have hBv := hB99 v hv y1
    have a1 := (A.1 v hv).resolve_left hBv
    rw [hhld v hv] at y2
    refine ⟨5, zq_pre67 (g0 := g) h8 hn hv h01 ((hbas v hv).trans (zq_eBy hBv)) a1.2.1 (hhld v hv) (fun fre' g' U' K' h1 => ?_) 4 0 fre g (by omega) U (fun f _ _ => ⟨fun _ => rfl, fun z => z⟩) (fun j hj => ⟨fun z => absurd z (Nat.not_lt_zero j), fun _ => a1.2.2 (B v + j) (by omega) (by omega)⟩)⟩
    refine h v fre' _ hv hBv y2 (zq_re U' (fun f f1 f2 => ?_) (fun f f1 f2 => ?_)) (zq_preA hn A hv hBv K' h1) ?_
    · rw [if_neg (by omega)]
    · split <;> omega
    · have hj : ∃ j, j < 4 ∧ th (4 * v + j) = 0 := by
        by_cases e : ∃ j, j < 4 ∧ th (4 * v + j) = 0
        · exact e
        · exfalso
          refine y2 ((zq_H15 h01 hv).mpr (fun j hj => ?_))
          exact zq_t1 h01 (by omega) (fun z => e ⟨j, hj, z⟩)
      obtain ⟨j, hj, tj⟩ := hj
      have h2 := (h1 j hj).1 tj
      refine ⟨B v + j, by omega, ?_⟩
      rw [if_neg (by omega)]
      exact h2
end
end
section
/-! a page is brought in -/
def zq_Q (post : SX → Prop) (n : Nat) (th op co : Nat → Int32) : Prop := ∀ (uc ck : Int32) (dat fre frm cw bas hld lrg lw lu : Nat → Int32), zq_R n uc dat fre frm cw bas hld lrg lw th op co → post (nI n, uc, ck, dat, fre, frm, cw, bas, hld, lrg, lw, lu)
section
variable {n : Nat} {uc ck : Int32} {dat fre frm cw bas hld lrg lw lu th op co : Nat → Int32} {g g' B F : Nat → Nat} {p : Nat}
theorem zq_F9n {F : Nat → Nat} {p f q : Nat} (h : q ≠ p) : zq_B9 F p f q = F q := if_neg h
/-- the page's frame is reserved already -/
theorem zq_brA1 (A : zq_A n g B F th) (hp : p < 64) (hB : B (p / 4) ≠ 99) (tp : th p = 0) : zq_A n g B (zq_B9 F p (B (p / 4) + p % 4)) (upd th p 1) := by
  obtain ⟨A1, A2, A3, A4, A5⟩ := A
  have a1 := (A1 (p / 4) (by omega)).resolve_left hB
  refine ⟨A1, A2, fun q hq tq => ?_, fun f q hf hq e => ?_, A5⟩
  · by_cases e : q = p
    · subst e
      rw [zq_B9s]
      exact ⟨by omega, fun z => absurd z hB, fun _ => rfl⟩
    · rw [pk_un e] at tq
      rw [zq_F9n e]
      exact A3 q hq tq
  · have a4 := A4 f q hf hq e
    have ne : q ≠ p := fun z => a4.1 (by rw [z]; exact tp)
    rw [pk_un ne, zq_F9n ne]
    exact a4
/-- a single frame -/
theorem zq_brA0 {a : Nat} (A : zq_A n g B F th) (hp : p < 64) (hB : B (p / 4) = 99) (tp : th p = 0) (ha : a < n) (ga : g a < 192) (ga' : g' a = 300 + p) (K : zq_K n g g' a 1) : zq_A n g' B (zq_B9 F p a) (upd th p 1) := by
  obtain ⟨A1, A2, A3, A4, A5⟩ := A
  have back : ∀ f c, f < n → f ≠ a → g' f = c → 192 ≤ c → g f = c := by
    intro f c hf hfa e hc
    have k := K f hf (by omega)
    by_cases y : g f < 192
    · have := k.2 y; omega
    · rw [← k.1 (by omega)]; exact e
  have keep : ∀ f c, f < n → g f = c → 192 ≤ c → g' f = c := by
    intro f c hf e hc
    have k := K f hf (fun z => by
      have : f = a := by omega
      rw [this] at e
      omega)
    rw [k.1 (by omega)]; exact e
  refine ⟨fun b hb => ?_, fun f b hf hb e => ?_, fun q hq tq => ?_, fun f q hf hq e => ?_, fun f hf => ?_⟩
  · rcases A1 b hb with z | z
    · exact Or.inl z
    · exact Or.inr ⟨z.1, z.2.1, fun f f1 f2 => keep f _ (by omega) (z.2.2 f f1 f2) (by omega)⟩
  · refine A2 f b hf hb (back f _ hf (fun z => ?_) e (by omega))
    rw [z] at e
    omega
  · by_cases e : q = p
    · subst e
      rw [zq_B9s]
      exact ⟨ha, fun _ => ga', fun z => absurd hB z⟩
    · rw [pk_un e] at tq
      rw [zq_F9n e]
      have a3 := A3 q hq tq
      exact ⟨a3.1, fun z => keep _ _ a3.1 (a3.2.1 z) (by omega), a3.2.2⟩
  · by_cases e2 : f = a
    · subst e2
      have : q = p := by omega
      subst this
      rw [pk_us, zq_B9s]
      exact ⟨by decide, hB, rfl⟩
    · have a4 := A4 f q hf hq (back f _ hf e2 e (by omega))
      have ne : q ≠ p := fun z => a4.1 (by rw [z]; exact tp)
      rw [pk_un ne, zq_F9n ne]
      exact a4
  · by_cases e2 : f = a
    · rw [e2, ga']; omega
    · have k := K f hf (by omega)
      by_cases y : g f < 192
      · exact Or.inl (k.2 y)
      · rw [k.1 (by omega)]; exact A5 f hf
theorem zq_brA6 (h01 : zq_01 th) (hp : p < 64) (A6 : ∀ b, b < 16 → b ≠ p / 4 → zq_H th b = 0 → B b = 99) : zq_A6 B (upd th p 1) := by
  intro b hb e
  by_cases z : b = p / 4
  · exfalso
    rw [z] at e
    have := zq_H0p (zq_01u (q := p) h01 (Or.inr rfl)) hp e
    rw [pk_us] at this
    exact absurd this (by decide)
  · rw [zq_Hn (fun y => z y.symm)] at e
    exact A6 b hb z e
theorem zq_brX {f : Nat} {w x : Int32} (A : zq_A n g B (zq_B9 F p f) (upd th p 1)) (X : zq_X B F uc dat frm cw bas hld lrg lw th op co) (hp : p < 64) (tp : th p = 0) (h01 : w = 0 ∨ w = 1) :
    zq_X B (zq_B9 F p f) (uc + 1) (upd dat f x) (upd frm p (nI f)) (upd cw p w) bas (upd hld (p / 4) (zq_H (upd th p 1) (p / 4))) lrg lw (upd th p 1) (upd op p w) (upd co p x) := by
  obtain ⟨X1, X2, X3, X4, X5, X6, X7, X8⟩ := X
  refine ⟨zq_01u X1 (Or.inr rfl), zq_01u X2 h01, by rw [X3, nI_1, zq_c_1 tp 64 hp], X4, fun b hb => ?_, fun q hq tq hl => ?_, fun b hb hl => ?_, fun q hq tq => ?_⟩
  · by_cases e : b = p / 4
    · rw [e, pk_us]
    · rw [pk_un e, zq_Hn (fun y => e y.symm)]
      exact X5 b hb
  · by_cases e : q = p
    · subst e
      rw [pk_us, pk_us, pk_us, zq_B9s]
      exact ⟨rfl, rfl⟩
    · rw [pk_un e] at tq
      rw [pk_un e, pk_un e, pk_un e, zq_F9n e]
      exact X6 q hq tq hl
  · have x7 := X7 b hb hl
    have ne : p / 4 ≠ b := by
      intro z
      have := zq_H15p X1 hp (by rw [z]; exact x7.2.1)
      rw [tp] at this
      exact absurd this (by decide)
    rw [zq_Hn ne]
    refine ⟨x7.1, x7.2.1, fun j hj => ?_⟩
    rw [pk_un (by omega)]
    exact x7.2.2 j hj
  · by_cases e : q = p
    · subst e
      rw [zq_B9s, pk_us, pk_us]
    · have tq' := tq
      rw [pk_un e] at tq
      have ne : F q ≠ f := by
        intro z
        refine e (zq_inj A q p hq hp tq' (by rw [pk_us]; decide) ?_)
        rw [zq_F9n e, zq_B9s]
        exact z
      rw [pk_un e, zq_F9n e, pk_un ne]
      exact X8 q hq tq
theorem zq_preX {v : Nat} (X : zq_X B F uc dat frm cw bas hld lrg lw th op co) (hH : zq_H th v ≠ 15) : zq_X (zq_B9 B v 99) F uc dat frm cw (upd bas v (-1)) hld lrg lw th op co := by
  obtain ⟨X1, X2, X3, X4, X5, X6, X7, X8⟩ := X
  refine ⟨X1, X2, X3, fun b hb => ?_, X5, X6, fun b hb hl => ?_, X8⟩
  · by_cases e : b = v
    · rw [e, pk_us, zq_B9s, zq_eBn]
    · rw [pk_un e, zq_B9n e]
      exact X4 b hb
  · have x7 := X7 b hb hl
    rw [zq_B9n (fun z => hH (by rw [← z]; exact x7.2.1))]
    exact x7
theorem zq_rsX {v a : Nat} (X : zq_X B F uc dat frm cw bas hld lrg lw th op co) (hH : zq_H th v = 0) (ha : a ≠ 99) : zq_X (zq_B9 B v a) F uc dat frm cw (upd bas v (nI a)) hld lrg lw th op co := by
  obtain ⟨X1, X2, X3, X4, X5, X6, X7, X8⟩ := X
  refine ⟨X1, X2, X3, fun b hb => ?_, X5, X6, fun b hb hl => ?_, X8⟩
  · by_cases e : b = v
    · rw [e, pk_us, zq_B9s, zq_eBy ha]
    · rw [pk_un e, zq_B9n e]
      exact X4 b hb
  · have x7 := X7 b hb hl
    rw [zq_B9n (fun z => by
      have := x7.2.1
      rw [z, hH] at this
      exact absurd this (by decide))]
    exact x7
theorem zq_rsA {v a : Nat} (hn : n ≤ 48) (A : zq_A n g B F th) (h01 : zq_01 th) (hv : v < 16) (hH : zq_H th v = 0) (hB : B v = 99) (ha : a % 4 = 0) (hl : a + 4 ≤ n) (h1 : ∀ f, a ≤ f → f < a + 4 → g f < 192) (h2 : ∀ f, a ≤ f → f < a + 4 → g' f = 200 + v) (K : zq_K n g g' a 4) : zq_A n g' (zq_B9 B v a) F th := by
  obtain ⟨A1, A2, A3, A4, A5⟩ := A
  have keep : ∀ f c, f < n → g f = c → 192 ≤ c → g' f = c := by
    intro f c hf e hc
    have k := K f hf (fun z => by
      have := h1 f z.1 z.2
      omega)
    rw [k.1 (by omega)]; exact e
  have back : ∀ f c, f < n → ¬ (a ≤ f ∧ f < a + 4) → g' f = c → 192 ≤ c → g f = c := by
    intro f c hf hfa e hc
    have k := K f hf hfa
    by_cases y : g f < 192
    · have := k.2 y; omega
    · rw [← k.1 (by omega)]; exact e
  have hpv : ∀ q, q < 64 → th q ≠ 0 → q / 4 ≠ v := fun q hq tq z => tq (zq_H0p h01 hq (by rw [z]; exact hH))
  refine ⟨fun b hb => ?_, fun f b hf hb e => ?_, fun q hq tq => ?_, fun f q hf hq e => ?_, fun f hf => ?_⟩
  · by_cases e : b = v
    · subst e
      rw [zq_B9s]
      exact Or.inr ⟨ha, hl, h2⟩
    · rw [zq_B9n e]
      rcases A1 b hb with z | z
      · exact Or.inl z
      · exact Or.inr ⟨z.1, z.2.1, fun f f1 f2 => keep f _ (by omega) (z.2.2 f f1 f2) (by omega)⟩
  · by_cases c : a ≤ f ∧ f < a + 4
    · have := h2 f c.1 c.2
      have : b = v := by omega
      subst this
      rw [zq_B9s]
      exact c
    · have z := A2 f b hf hb (back f _ hf c e (by omega))
      have ne : b ≠ v := fun y => by rw [y, hB] at z; omega
      rw [zq_B9n ne]
      exact z
  · have a3 := A3 q hq tq
    rw [zq_B9n (hpv q hq tq)]
    exact ⟨a3.1, fun z => keep _ _ a3.1 (a3.2.1 z) (by omega), a3.2.2⟩
  · have c : ¬ (a ≤ f ∧ f < a + 4) := fun c => by
      have := h2 f c.1 c.2
      omega
    have a4 := A4 f q hf hq (back f _ hf c e (by omega))
    rw [zq_B9n (hpv q hq a4.1)]
    exact a4
  · by_cases c : a ≤ f ∧ f < a + 4
    · rw [h2 f c.1 c.2]; omega
    · have k := K f hf c
      by_cases y : g f < 192
      · exact Or.inl (k.2 y)
      · rw [k.1 (by omega)]; exact A5 f hf
end
section
variable {post : SX → Prop} {n : Nat} {uc ck w x : Int32} {dat fre frm cw bas hld lrg lw lu th op co : Nat → Int32} {g B F : Nat → Nat} {p : Nat}
theorem zq_bring78 {f : Nat} (h8 : n % 8 = 0) (h0 : 8 ≤ n) (hn : n ≤ 48) (U : zq_BU n fre g) (A : zq_A n g B (zq_B9 F p f) (upd th p 1)) (A6 : zq_A6 B (upd th p 1)) (X : zq_X B F uc dat frm cw bas hld lrg lw th op co) (hp : p < 64) (tp : th p = 0) (hf : f < n) (h01 : w = 0 ∨ w = 1)
    (h : zq_Q post n (upd th p 1) (upd op p w) (upd co p x)) :
    wX_bringIn_78 post (nI p) w x (nI (p / 4)) (nI f) (nI n) uc ck dat fre frm cw bas hld lrg lw lu := by
  have hip : vp_in (nI p) 64 := vp_in_nI hp (by omega)
  have hib : vp_in (nI (p / 4)) 16 := vp_in_nI (by omega) (by omega)
  have ep : (nI p).toNatClampNeg = p := nI_clamp (by omega)
  have eb : (nI (p / 4)).toNatClampNeg = p / 4 := nI_clamp (by omega)
  have ef : (nI f).toNatClampNeg = f := nI_clamp (by omega)
  have eh : hld (p / 4) ||| ((1 : Int32) <<< ((nI p &&& 3) &&& 31)) = zq_H (upd th p 1) (p / 4) := by
    rw [zq_an hp, X.2.2.2.2.1 (p / 4) (by omega), zq_Hs X.1 (by omega) (by omega), zq_pg]
  refine br_f (zq_ne1 (by omega)) ⟨hip, nm_r (e' := upd frm p (nI f)) (by rw [ep]) ⟨hip, nm_r (e' := upd cw p w) (by rw [ep, zq_vb h01]) ⟨vp_in_nI (by omega) (by omega), nm_r (e' := upd dat f x) (by rw [ef]) ⟨hib, hib, nm_r (e' := upd hld (p / 4) (zq_H (upd th p 1) (p / 4))) (by rw [eb, eh]) (nm_e ?_)⟩⟩⟩⟩
  refine zq_use (by omega) (fun ck' lu' => ?_)
  exact zq_join ⟨h8, h0, hn, g, B, _, U, A, A6, zq_brX A X hp tp h01⟩ (by omega) (fun frm' lrg' lw' R' => h _ _ _ _ _ _ _ _ _ _ _ R')
theorem zq_bring27 (h8 : n % 8 = 0) (h0 : 8 ≤ n) (hn : n ≤ 48) (U : zq_BU n fre g) (A : zq_A n g B F th) (A6 : ∀ b, b < 16 → b ≠ p / 4 → zq_H th b = 0 → B b = 99) (X : zq_X B F uc dat frm cw bas hld lrg lw th op co) (hp : p < 64) (tp : th p = 0) (hc : zq_c th 64 < n) (h01 : w = 0 ∨ w = 1)
    (h : zq_Q post n (upd th p 1) (upd op p w) (upd co p x)) :
    wX_bringIn_27 post (nI p) w x (nI (p / 4)) (nI n) uc ck dat fre frm cw bas hld lrg lw lu := by
  have hib : vp_in (nI (p / 4)) 16 := vp_in_nI (by omega) (by omega)
  have eb : (nI (p / 4)).toNatClampNeg = p / 4 := nI_clamp (by omega)
  have X4 := X.2.2.2.1 (p / 4) (by omega)
  unfold wX_bringIn_27
  rw [eb]
  refine ⟨hib, ?_⟩
  by_cases hB : B (p / 4) = 99
  · refine br_t (by rw [X4, hB, zq_eBn]) ?_
    refine zq_alloc (t := 0) (c := 300 + p) hn (by omega) (by omega) U (fun hz => ?_) (fun a fre' g' m1 m2 m3 U' m4 K => ?_)
    · refine br_t rfl ?_
      have hz' : ∀ f, f < n → 192 ≤ g f := zq_none U (fun o a ho ha => hz o a (Nat.zero_le o) ho ha)
      refine zq_preempt h8 hn U A X.1 X.2.2.2.1 X.2.2.2.2.1 (zq_full hn A X.1 hz' hc) (fun v fre' g' hv y1 y2 U' A' hE => ?_)
      have hB' : zq_B9 B v 99 (p / 4) = 99 := by
        by_cases e : p / 4 = v
        · rw [e, zq_B9s]
        · rw [zq_B9n e]; exact hB
      refine zq_alloc (t := 0) (c := 300 + p) hn (by omega) (by omega) U' (fun hz2 => ?_) (fun a fre2 g2 m1 m2 m3 U2 m4 K => ?_)
      · exfalso
        obtain ⟨f, hf, hgf⟩ := hE
        have := zq_none U' (fun o a ho ha => hz2 o a (Nat.zero_le o) ho ha) f hf
        omega
      · refine zq_bring78 h8 h0 hn U2 (zq_brA0 A' hp hB' tp (by omega) (m3 a (by omega) (by omega)) (m4 a (by omega) (by omega)) K) (zq_brA6 X.1 hp (fun b hb ne e => ?_)) (zq_preX X y2) hp tp (by omega) h01 h
        by_cases ev : b = v
        · rw [ev, zq_B9s]
        · rw [zq_B9n ev]; exact A6 b hb ne e
    · refine br_f (zq_ne1 (by omega)) ?_
      exact zq_bring78 h8 h0 hn U' (zq_brA0 A hp hB tp (by omega) (m3 a (by omega) (by omega)) (m4 a (by omega) (by omega)) K) (zq_brA6 X.1 hp A6) X hp tp (by omega) h01 h
  · have a1 := (A.1 (p / 4) (by omega)).resolve_left hB
    rw [X4, zq_eBy hB, zq_an hp, nI_add]
    refine br_f (zq_ne1 (by omega)) ⟨hib, nm_e ?_⟩
    exact zq_bring78 h8 h0 hn U (zq_brA1 A hp hB tp) (zq_brA6 X.1 hp A6) X hp tp (by omega) h01 h
theorem zq_bring (R : zq_R n uc dat fre frm cw bas hld lrg lw th op co) (hp : p < 64) (tp : th p = 0) (hc : zq_c th 64 < n) (h01 : w = 0 ∨ w = 1)
    (h : zq_Q post n (upd th p 1) (upd op p w) (upd co p x)) :
    wpX_bringIn post (nI n, uc, ck, dat, fre, frm, cw, bas, hld, lrg, lw, lu) (nI p) w x := by
  obtain ⟨h8, h0, hn, g, B, F, U, A, A6, X⟩ := R
  have hib : vp_in (nI (p / 4)) 16 := vp_in_nI (by omega) (by omega)
  have eb : (nI (p / 4)).toNatClampNeg = p / 4 := nI_clamp (by omega)
  unfold wpX_bringIn
  dsimp only
  refine nm_r (zq_sh hp) ?_
  rw [eb]
  refine ⟨hib, br_c (fun hz => ?_) (fun _ => zq_bring27 h8 h0 hn U A (fun b hb _ e => A6 b hb e) X hp tp hc h01 h)⟩
  rw [X.2.2.2.2.1 (p / 4) (by omega)] at hz
  have hB := A6 (p / 4) (by omega) hz
  refine zq_alloc (t := 2) (c := 200 + p / 4) hn (by omega) (by omega) U (fun _ => ?_) (fun a fre' g' m1 m2 m3 U' m4 K => ?_)
  · have ebas : bas (p / 4) = -1 := by rw [X.2.2.2.1 (p / 4) (by omega), hB, zq_eBn]
    refine ⟨hib, nm_r (e' := bas) (zq_uid ebas) ?_⟩
    exact zq_bring27 h8 h0 hn U A (fun b hb _ e => A6 b hb e) X hp tp hc h01 h
  · refine ⟨hib, nm_e ?_⟩
    exact zq_bring27 h8 h0 hn U' (zq_rsA hn A X.1 (by omega) hz hB (by omega) (by omega) m3 m4 K) (fun b hb ne e => by rw [zq_B9n ne]; exact A6 b hb e) (zq_rsX X hz (by omega)) hp tp hc h01 h
end
end
section
/-! a page is taken out; a page is carried -/
theorem zq_enum (th : Nat → Int32) : ∀ m, ∃ P : Nat → Nat, (∀ i, i < zq_c th m → P i < m ∧ th (P i) ≠ 0) ∧ (∀ i j, i < zq_c th m → j < zq_c th m → P i = P j → i = j) := by
  intro m
  induction m with
  | zero => exact ⟨fun i => i, fun i h => absurd h (Nat.not_lt_zero i), fun i j h => absurd h (Nat.not_lt_zero i)⟩
  | succ m ih =>
    obtain ⟨P, h1, h2⟩ := ih
    by_cases e : th m = 0
    · have ec : zq_c th (m + 1) = zq_c th m := by
        show zq_c th m + (if th m = 0 then 0 else 1) = _
        rw [if_pos e]; rfl
      rw [ec]
      exact ⟨P, fun i hi => ⟨by have := (h1 i hi).1; omega, (h1 i hi).2⟩, h2⟩
    · have ec : zq_c th (m + 1) = zq_c th m + 1 := by
        show zq_c th m + (if th m = 0 then 0 else 1) = _
        rw [if_neg e]
      rw [ec]
      refine ⟨zq_B9 P (zq_c th m) m, fun i hi => ?_, fun i j hi hj eq => ?_⟩
      · by_cases z : i = zq_c th m
        · rw [z, zq_B9s]; exact ⟨by omega, e⟩
        · rw [zq_B9n z]
          have := h1 i (by omega)
          exact ⟨by omega, this.2⟩
      · by_cases z : i = zq_c th m
        · by_cases z' : j = zq_c th m
          · omega
          · rw [z, zq_B9s, zq_B9n z'] at eq
            have := (h1 j (by omega)).1
            omega
        · by_cases z' : j = zq_c th m
          · rw [z', zq_B9s, zq_B9n z] at eq
            have := (h1 i (by omega)).1
            omega
          · rw [zq_B9n z, zq_B9n z'] at eq
            exact h2 i j (by omega) (by omega) eq
theorem zq_cle {n : Nat} {g B F : Nat → Nat} {th : Nat → Int32} (A : zq_A n g B F th) : zq_c th 64 ≤ n := by
  obtain ⟨P, h1, h2⟩ := zq_enum th 64
  have := zq_pig n (fun i => F (P i)) (zq_c th 64) (fun _ => 1) (fun i hi => ⟨(A.2.2.1 (P i) (h1 i hi).1 (h1 i hi).2).1, by decide⟩) (fun i j hi hj e => h2 i j hi hj (zq_inj A _ _ (h1 i hi).1 (h1 j hj).1 (h1 i hi).2 (h1 j hj).2 e))
  have := zq_c_le (fun _ => 1) n
  omega
section
variable {n : Nat} {uc ck : Int32} {dat fre frm cw bas hld lrg lw lu th op co : Nat → Int32} {g g' B F : Nat → Nat} {p : Nat}
theorem zq_tkX (A : zq_A n g B F th) (X : zq_X B F uc dat frm cw bas hld lrg lw th op co) (hp : p < 64) (tp : th p ≠ 0) (hl : lrg (p / 4) = 0) :
    zq_X B F (uc - 1) (upd dat (F p) 0) (upd frm p (-1)) cw bas (upd hld (p / 4) (zq_H (upd th p 0) (p / 4))) lrg lw (upd th p 0) op co := by
  obtain ⟨X1, X2, X3, X4, X5, X6, X7, X8⟩ := X
  refine ⟨zq_01u X1 (Or.inl rfl), X2, by rw [X3, ← zq_c_0 tp 64 hp, nI_pred], X4, fun b hb => ?_, fun q hq tq hlq => ?_, fun b hb hlb => ?_, fun q hq tq => ?_⟩
  · by_cases e : b = p / 4
    · rw [e, pk_us]
    · rw [pk_un e, zq_Hn (fun y => e y.symm)]
      exact X5 b hb
  · have e : q ≠ p := fun z => by rw [z, pk_us] at tq; exact tq rfl
    rw [pk_un e] at tq
    rw [pk_un e]
    exact X6 q hq tq hlq
  · have ne : p / 4 ≠ b := fun z => hlb (by rw [← z]; exact hl)
    rw [zq_Hn ne]
    exact X7 b hb hlb
  · have e : q ≠ p := fun z => by rw [z, pk_us] at tq; exact tq rfl
    rw [pk_un e] at tq
    rw [pk_un (fun z => e (zq_inj A q p hq hp tq tp z))]
    exact X8 q hq tq
theorem zq_tkA0 (A : zq_A n g B F th) (hp : p < 64) (tp : th p ≠ 0) (hB : B (p / 4) = 99) (h1 : g' (F p) < 192) (K : zq_K n g g' (F p) 1) : zq_A n g' B F (upd th p 0) := by
  have hi := zq_inj A
  obtain ⟨A1, A2, A3, A4, A5⟩ := A
  have gp := (A3 p hp tp).2.1 hB
  have back : ∀ f c, f < n → g' f = c → 192 ≤ c → g f = c ∧ f ≠ F p := by
    intro f c hf e hc
    have ne : f ≠ F p := fun z => by rw [z] at e; omega
    have k := K f hf (by omega)
    refine ⟨?_, ne⟩
    by_cases y : g f < 192
    · have := k.2 y; omega
    · rw [← k.1 (by omega)]; exact e
  have keep : ∀ f c, f < n → g f = c → 192 ≤ c → f ≠ F p → g' f = c := by
    intro f c hf e hc ne
    have k := K f hf (by omega)
    rw [k.1 (by omega)]; exact e
  refine ⟨fun b hb => ?_, fun f b hf hb e => ?_, fun q hq tq => ?_, fun f q hf hq e => ?_, fun f hf => ?_⟩
  · rcases A1 b hb with z | z
    · exact Or.inl z
    · refine Or.inr ⟨z.1, z.2.1, fun f f1 f2 => keep f _ (by omega) (z.2.2 f f1 f2) (by omega) (fun y => ?_)⟩
      have := z.2.2 f f1 f2
      rw [y] at this
      omega
  · exact A2 f b hf hb (back f _ hf e (by omega)).1
  · have e : q ≠ p := fun z => by rw [z, pk_us] at tq; exact tq rfl
    rw [pk_un e] at tq
    have a3 := A3 q hq tq
    exact ⟨a3.1, fun z => keep _ _ a3.1 (a3.2.1 z) (by omega) (fun y => e (hi q p hq hp tq tp y)), a3.2.2⟩
  · have bk := back f _ hf e (by omega)
    have a4 := A4 f q hf hq bk.1
    have ne : q ≠ p := fun z => bk.2 (by rw [← a4.2.2, z])
    rw [pk_un ne]
    exact a4
  · by_cases e2 : f = F p
    · rw [e2]; exact Or.inl h1
    · have k := K f hf (by omega)
      by_cases y : g f < 192
      · exact Or.inl (k.2 y)
      · rw [k.1 (by omega)]; exact A5 f hf
theorem zq_tkA1 (A : zq_A n g B F th) (hB : B (p / 4) ≠ 99) : zq_A n g B F (upd th p 0) := by
  obtain ⟨A1, A2, A3, A4, A5⟩ := A
  refine ⟨A1, A2, fun q hq tq => ?_, fun f q hf hq e => ?_, A5⟩
  · have e : q ≠ p := fun z => by rw [z, pk_us] at tq; exact tq rfl
    rw [pk_un e] at tq
    exact A3 q hq tq
  · have a4 := A4 f q hf hq e
    have ne : q ≠ p := fun z => hB (by rw [← z]; exact a4.2.1)
    rw [pk_un ne]
    exact a4
theorem zq_unA {v : Nat} (A : zq_A n g B F th) (h01 : zq_01 th) (hv : v < 16) (hH : zq_H th v = 0) (hB : B v ≠ 99) (h1 : ∀ f, B v ≤ f → f < B v + 4 → g' f < 192) (K : zq_K n g g' (B v) 4) : zq_A n g' (zq_B9 B v 99) F th := by
  obtain ⟨A1, A2, A3, A4, A5⟩ := A
  have v1 := (A1 v hv).resolve_left hB
  have back : ∀ f c, f < n → g' f = c → 192 ≤ c → g f = c ∧ ¬ (B v ≤ f ∧ f < B v + 4) := by
    intro f c hf e hc
    have ne : ¬ (B v ≤ f ∧ f < B v + 4) := fun z => by have := h1 f z.1 z.2; omega
    have k := K f hf ne
    refine ⟨?_, ne⟩
    by_cases y : g f < 192
    · have := k.2 y; omega
    · rw [← k.1 (by omega)]; exact e
  have keep : ∀ f c, f < n → g f = c → 192 ≤ c → c ≠ 200 + v → g' f = c := by
    intro f c hf e hc ne
    have k := K f hf (fun z => by have := v1.2.2 f z.1 z.2; omega)
    rw [k.1 (by omega)]; exact e
  have hpv : ∀ q, q < 64 → th q ≠ 0 → q / 4 ≠ v := fun q hq tq z => tq (zq_H0p h01 hq (by rw [z]; exact hH))
  refine ⟨fun b hb => ?_, fun f b hf hb e => ?_, fun q hq tq => ?_, fun f q hf hq e => ?_, fun f hf => ?_⟩
  · by_cases e : b = v
    · rw [e, zq_B9s]; exact Or.inl rfl
    · rw [zq_B9n e]
      rcases A1 b hb with z | z
      · exact Or.inl z
      · exact Or.inr ⟨z.1, z.2.1, fun f f1 f2 => keep f _ (by omega) (z.2.2 f f1 f2) (by omega) (by omega)⟩
  · have bk := back f _ hf e (by omega)
    have z := A2 f b hf hb bk.1
    have ne : b ≠ v := fun y => bk.2 (by rw [← y]; exact z)
    rw [zq_B9n ne]
    exact z
  · have a3 := A3 q hq tq
    rw [zq_B9n (hpv q hq tq)]
    exact ⟨a3.1, fun z => keep _ _ a3.1 (a3.2.1 z) (by omega) (by omega), a3.2.2⟩
  · have bk := back f _ hf e (by omega)
    have a4 := A4 f q hf hq bk.1
    rw [zq_B9n (hpv q hq a4.1)]
    exact a4
  · by_cases c : B v ≤ f ∧ f < B v + 4
    · exact Or.inl (h1 f c.1 c.2)
    · have k := K f hf c
      by_cases y : g f < 192
      · exact Or.inl (k.2 y)
      · rw [k.1 (by omega)]; exact A5 f hf
end
section
variable {post : SX → Prop} {n : Nat} {uc ck : Int32} {dat fre frm cw bas hld lrg lw lu th op co : Nat → Int32} {p : Nat}
theorem zq_take (R : zq_R n uc dat fre frm cw bas hld lrg lw th op co) (hp : p < 64) (tp : th p ≠ 0)
    (h : zq_Q post n (upd th p 0) op co) :
    wpX_takeOut post (nI n, uc, ck, dat, fre, frm, cw, bas, hld, lrg, lw, lu) (nI p) := by
  unfold wpX_takeOut
  dsimp only
  refine nm_r (zq_sh hp) (zq_break R (by omega) (fun frm' cw' lrg' R' hl => ?_))
  obtain ⟨h8, h0, hn, g, B, F, U, A, A6, X⟩ := R'
  have hip : vp_in (nI p) 64 := vp_in_nI hp (by omega)
  have hib : vp_in (nI (p / 4)) 16 := vp_in_nI (by omega) (by omega)
  have ep : (nI p).toNatClampNeg = p := nI_clamp (by omega)
  have eb : (nI (p / 4)).toNatClampNeg = p / 4 := nI_clamp (by omega)
  have a3 := A.2.2.1 p hp tp
  have ef : (nI (F p)).toNatClampNeg = F p := nI_clamp (by omega)
  have eh : hld (p / 4) &&& (((1 : Int32) <<< ((nI p &&& 3) &&& 31)) ^^^ (-1)) = zq_H (upd th p 0) (p / 4) := by
    rw [zq_an hp, X.2.2.2.2.1 (p / 4) (by omega), zq_Hc X.1 (by omega) (by omega), zq_pg]
  have X4 := X.2.2.2.1 (p / 4) (by omega)
  have X' := zq_tkX A X hp tp hl
  have A6' : ∀ b, b < 16 → b ≠ p / 4 → zq_H (upd th p 0) b = 0 → B b = 99 := fun b hb ne e => A6 b hb (by rw [zq_Hn (fun y => ne y.symm)] at e; exact e)
  refine ⟨hip, nm_r (e' := nI (F p)) (by rw [ep]; exact (X.2.2.2.2.2.1 p hp tp hl).1) ⟨hip, nm_r (e' := upd frm' p (-1)) (by rw [ep]) ⟨hib, hib, nm_r (e' := upd hld (p / 4) (zq_H (upd th p 0) (p / 4))) (by rw [eb, eh]) (nm_e ⟨vp_in_nI (by omega) (by omega), nm_r (e' := upd dat (F p) 0) (by rw [ef]) ⟨hib, ?_⟩⟩)⟩⟩⟩
  dsimp only
  rw [eb, pk_us, X4]
  by_cases hB : B (p / 4) = 99
  · refine br_t (by rw [hB, zq_eBn]) ?_
    have gp := a3.2.1 hB
    refine zq_give (o := 0) h8 hn (by omega) U (by omega) (by omega) (fun f f1 f2 => ?_) (fun fre' g' U' h2 K => ?_)
    · rw [show f = F p by omega, gp]; omega
    · refine h _ _ _ _ _ _ _ _ _ _ _ ⟨h8, h0, hn, g', B, F, U', zq_tkA0 A hp tp hB (h2 (F p) (by omega) (by omega)) K, fun b hb e => ?_, X'⟩
      by_cases z : b = p / 4
      · rw [z]; exact hB
      · exact A6' b hb z e
  · have a1 := (A.1 (p / 4) (by omega)).resolve_left hB
    have A' := zq_tkA1 (p := p) A hB
    rw [zq_eBy hB]
    refine br_f (zq_ne1 (by omega)) ⟨hib, br_c (fun hz => ⟨hib, ?_⟩) (fun hz => ?_)⟩
    · refine zq_give (o := 2) h8 hn (by omega) U (by omega) (by omega) (fun f f1 f2 => ?_) (fun fre' g' U' h2 K => ?_)
      · rw [a1.2.2 f f1 f2]; omega
      · refine ⟨hib, nm_r (e' := upd bas (p / 4) (-1)) rfl ?_⟩
        refine h _ _ _ _ _ _ _ _ _ _ _ ⟨h8, h0, hn, g', zq_B9 B (p / 4) 99, F, U', zq_unA A' X'.1 (by omega) hz hB h2 K, fun b hb e => ?_, zq_preX X' (by rw [hz]; decide)⟩
        by_cases z : b = p / 4
        · rw [z, zq_B9s]
        · rw [zq_B9n z]; exact A6' b hb z e
    · refine h _ _ _ _ _ _ _ _ _ _ _ ⟨h8, h0, hn, g, B, F, U, A', fun b hb e => ?_, X'⟩
      by_cases z : b = p / 4
      · rw [z] at e; exact absurd e hz
      · exact A6' b hb z e
theorem zq_carry {q : Nat} (R : zq_R n uc dat fre frm cw bas hld lrg lw th op co) (hp : p < 64) (hq : q < 64) (tp : th p ≠ 0) (tq : th q = 0)
    (h : zq_Q post n (upd (upd th p 0) q 1) (upd op q (op p)) (upd co q (co p))) :
    wpX_carry post (nI n, uc, ck, dat, fre, frm, cw, bas, hld, lrg, lw, lu) (nI p) (nI q) := by
  unfold wpX_carry
  dsimp only
  have R0 := R
  obtain ⟨_, _, _, g, B, F, _, A, _, X1, X2, _⟩ := R0
  have hle := zq_cle A
  have hc0 := zq_c_0 tp 64 hp
  refine zq_mayR R hp tp (zq_conR R hp tp (zq_take R hp tp (fun uc1 ck1 dat1 fre1 frm1 cw1 bas1 hld1 lrg1 lw1 lu1 R1 => ?_)))
  refine zq_bring R1 hq ?_ (by omega) (X2 p hp) (fun uc2 ck2 dat2 fre2 frm2 cw2 bas2 hld2 lrg2 lw2 lu2 R2 => h _ _ _ _ _ _ _ _ _ _ _ R2)
  by_cases e : q = p
  · rw [e, pk_us]
  · rw [pk_un e]; exact tq
end
end
section
/-! arguments: a space, a page, a range; the reference's count -/
theorem zq_ix32 {s j : Nat} : (32 * nI s) + nI j = nI (32 * s + j) := by
  rw [show (32 : Int32) = nI 32 from rfl, pk_mul, nI_add]
theorem zq_spX {s : Nat} {post : Int32 → Prop} (hs : s < 2) (h : post 1) : wpX_isSpace post (nI s) := by
  have e : s = 0 ∨ s = 1 := by omega
  rcases e with rfl | rfl
  · exact br_t rfl h
  · exact br_f (show ¬ nI 1 = 0 by decide) (br_t rfl h)
theorem zq_spY {s : Nat} {post : Int32 → Prop} {fr : Int32} {th op co : Nat → Int32} (hs : s < 2) (h : post 0) : wpY_badSpace post (fr, th, op, co) (nI s) := by
  have e : s = 0 ∨ s = 1 := by omega
  rcases e with rfl | rfl
  · exact br_f (show ¬ nI 0 < 0 by decide) (br_t (show nI 0 ≤ 1 by decide) h)
  · exact br_f (show ¬ nI 1 < 0 by decide) (br_t (show nI 1 ≤ 1 by decide) h)
theorem zq_sp (v : Int32) : (∃ s, s < 2 ∧ v = nI s) ∨ ((∀ post : Int32 → Prop, post 0 → wpX_isSpace post v) ∧ ∀ (post : Int32 → Prop) (fr : Int32) (th op co : Nat → Int32), post 1 → wpY_badSpace post (fr, th, op, co) v) := by
  by_cases h0 : v = 0
  · exact Or.inl ⟨0, by omega, h0⟩
  · by_cases h1 : v = 1
    · exact Or.inl ⟨1, by omega, h1⟩
    · refine Or.inr ⟨fun post h => br_f h0 (br_f h1 h), fun post fr th op co h => ?_⟩
      by_cases hn : v < 0
      · exact br_t hn h
      · obtain ⟨j, hj, rfl⟩ := nI_of hn
        have : 1 < j := by
          by_cases z : j = 0
          · exact absurd (by rw [z]; rfl) h0
          · by_cases z1 : j = 1
            · exact absurd (by rw [z1]; rfl) h1
            · omega
        exact br_f hn (br_f (nI_ge (a := 1) this hj) h)
theorem zq_pgX {j : Nat} {post : Int32 → Prop} (hj : j < 32) (h : post 1) : wpX_isPage post (nI j) :=
  br_f (nI_pos (by omega)) (br_f (nI_ge (b := 32) hj (by omega)) h)
theorem zq_pgY {j : Nat} {post : Int32 → Prop} {fr : Int32} {th op co : Nat → Int32} (hj : j < 32) (h : post 0) : wpY_badPage post (fr, th, op, co) (nI j) :=
  br_f (nI_pos (by omega)) (br_t (nI_le (b := 31) (by omega) (by omega)) h)
theorem zq_pgc (v : Int32) : (∃ j, j < 32 ∧ v = nI j) ∨ ((∀ post : Int32 → Prop, post 0 → wpX_isPage post v) ∧ ∀ (post : Int32 → Prop) (fr : Int32) (th op co : Nat → Int32), post 1 → wpY_badPage post (fr, th, op, co) v) := by
  by_cases hn : v < 0
  · exact Or.inr ⟨fun post h => br_t hn h, fun post fr th op co h => br_t hn h⟩
  · obtain ⟨j, hj, rfl⟩ := nI_of hn
    by_cases h : j < 32
    · exact Or.inl ⟨j, h, rfl⟩
    · exact Or.inr ⟨fun post hp => br_f hn (br_t (nI_le (a := 32) (by omega) hj) hp), fun post fr th op co hp => br_f hn (br_f (nI_ge (a := 31) (by omega) hj) hp)⟩
theorem zq_rgX {i m : Nat} {post : Int32 → Prop} (hm : 1 ≤ m) (hi : i + m ≤ 32) (h : post 1) : wpX_isRange post (nI i) (nI m) := by
  refine br_f (nI_nlt (b := 1) hm (by omega)) (br_f (nI_nlt (a := 32) (by omega) (by omega)) (br_f (nI_pos (by omega)) (br_f ?_ h)))
  rw [show (32 : Int32) - nI m = nI (32 - m) from pk_sub (a := 32) (by omega)]
  exact nI_nlt (by omega) (by omega)
theorem zq_rgY {i m : Nat} {post : Int32 → Prop} {fr : Int32} {th op co : Nat → Int32} (hm : 1 ≤ m) (hi : i + m ≤ 32) (h : post 0) : wpY_badRange post (fr, th, op, co) (nI i) (nI m) := by
  refine br_f (nI_nlt (b := 1) hm (by omega)) (br_t (nI_le (b := 32) (by omega) (by omega)) (br_f (nI_pos (by omega)) (br_t ?_ h)))
  rw [show (32 : Int32) - nI m = nI (32 - m) from pk_sub (a := 32) (by omega)]
  exact nI_le (by omega) (by omega)
theorem zq_rg (a c : Int32) : (∃ i m, 1 ≤ m ∧ i + m ≤ 32 ∧ a = nI i ∧ c = nI m) ∨ ((∀ post : Int32 → Prop, post 0 → wpX_isRange post a c) ∧ ∀ (post : Int32 → Prop) (fr : Int32) (th op co : Nat → Int32), post 1 → wpY_badRange post (fr, th, op, co) a c) := by
  by_cases h1 : c < 1
  · exact Or.inr ⟨fun post h => br_t h1 h, fun post fr th op co h => br_t h1 h⟩
  · have hn : ¬ c < 0 := fun z => h1 (Int32.lt_trans z (by decide))
    obtain ⟨m, hm, rfl⟩ := nI_of hn
    have hm1 : 1 ≤ m := by
      by_cases z : m = 0
      · exact absurd (by rw [z]; decide) h1
      · omega
    by_cases h32 : m ≤ 32
    · have a1 : ¬ (32 : Int32) < nI m := nI_nlt (a := 32) (b := m) h32 (by omega)
      have a2 : nI m ≤ 32 := nI_le (b := 32) h32 (by omega)
      by_cases hp : a < 0
      · exact Or.inr ⟨fun post h => br_f h1 (br_f a1 (br_t hp h)), fun post fr th op co h => br_f h1 (br_t a2 (br_t hp h))⟩
      · obtain ⟨i, hi, rfl⟩ := nI_of hp
        have es : (32 : Int32) - nI m = nI (32 - m) := pk_sub (a := 32) h32
        by_cases hr : i + m ≤ 32
        · exact Or.inl ⟨i, m, hm1, hr, rfl, rfl⟩
        · refine Or.inr ⟨fun post h => br_f h1 (br_f a1 (br_f hp (br_t ?_ h))), fun post fr th op co h => br_f h1 (br_t a2 (br_f hp (br_f ?_ h)))⟩
          · rw [es]; exact nI_lt (by omega) hi
          · rw [es]; exact nI_ge (by omega) hi
    · exact Or.inr ⟨fun post h => br_f h1 (br_t (nI_lt (a := 32) (by omega) hm) h), fun post fr th op co h => br_f h1 (br_f (nI_ge (a := 32) (by omega) hm) h)⟩
section
variable {post : Int32 → Prop} {fr : Int32} {th op co : Nat → Int32}
theorem zq_us4 (h : post (nI (zq_c th 64))) : ∀ (d i : Nat), i + d = 64 → wY_used_4 post fr th op co (d + 1) (nI (zq_c th i)) (nI i) := by
  intro d
  induction d with
  | zero =>
    intro i hi
    have : i = 64 := by omega
    subst this
    exact br_t (show (64 : Int32) ≤ nI 64 by decide) h
  | succ d ih =>
    intro i hi
    have hn := ih (i + 1) (by omega)
    have es : zq_c th (i + 1) = zq_c th i + (if th i = 0 then 0 else 1) := rfl
    refine br_f (nI_ge (b := 64) (by omega) (by omega)) ⟨vp_in_nI (by omega) (by omega), ?_⟩
    rw [nI_clamp (show i < 2 ^ 31 by omega)]
    refine br_c (fun z => nm_r (nI_1 i) ?_) (fun z => nm_r (nI_1 _) (nm_r (nI_1 i) ?_))
    · rw [es, if_pos z] at hn
      exact hn
    · rw [es, if_neg z] at hn
      exact hn
theorem zq_used (h : post (nI (zq_c th 64))) : wpY_used post (fr, th, op, co) := ⟨65, zq_us4 h 64 0 (by omega)⟩
end
/-! sums of bits -/
def zq_s (f : Nat → Int32) : Nat → Int32
  | 0 => 0
  | k + 1 => zq_s f k + f k
theorem zq_bits4 {post : Int32 → Prop} {th : Nat → Int32} {b : Nat} (h01 : zq_01 th) (hb : b < 16) (h : post (zq_s (fun j => th (4 * b + j)) 4)) :
    ∀ (d k : Nat), k + d = 4 → wX_bits_4 post (zq_H th b) (d + 1) (zq_s (fun j => th (4 * b + j)) k) (nI k) := by
  intro d
  induction d with
  | zero =>
    intro k hk
    have : k = 4 := by omega
    subst this
    exact br_t (show (4 : Int32) ≤ nI 4 by decide) h
  | succ d ih =>
    intro k hk
    refine br_f (nI_ge (b := 4) (by omega) (by omega)) (nm_r (e' := zq_s (fun j => th (4 * b + j)) (k + 1)) ?_ (nm_r (nI_1 k) (ih (k + 1) (by omega))))
    rw [zq_bit h01 hb (by omega)]
    rfl
theorem zq_bits {post : Int32 → Prop} {th : Nat → Int32} {b : Nat} (h01 : zq_01 th) (hb : b < 16) (h : post (zq_s (fun j => th (4 * b + j)) 4)) : wpX_bits post (zq_H th b) :=
  ⟨5, zq_bits4 h01 hb h 4 0 (by omega)⟩
theorem zq_scs {t : Nat → Int32} {m : Nat} : ∀ k, (∀ j, j < k → t (m + j) = 0 ∨ t (m + j) = 1) → nI (zq_c t m) + zq_s (fun j => t (m + j)) k = nI (zq_c t (m + k)) := by
  intro k
  induction k with
  | zero => exact fun _ => Int32.add_zero _
  | succ k ih =>
    intro h
    have hk := ih (fun j hj => h j (by omega))
    show nI (zq_c t m) + (zq_s (fun j => t (m + j)) k + t (m + k)) = nI (zq_c t (m + k) + (if t (m + k) = 0 then 0 else 1))
    rw [← Int32.add_assoc, hk]
    rcases h k (by omega) with e | e
    · rw [e, if_pos rfl]; exact Int32.add_zero _
    · rw [e, if_neg (by decide)]; exact nI_1 _
end
section
/-! the owed relation; the methods that only read -/
/-- both hold n frames; the component's arrays stand for the reference's -/
def i_Rel (_ : Nat) (u : SX) (v : SY) : Prop := match u, v with
  | (fc, uc, _, dat, fre, frm, cw, bas, hld, lrg, lw, _), (fr, th, op, co) => ∃ n : Nat, fc = nI n ∧ fr = nI n ∧ zq_R n uc dat fre frm cw bas hld lrg lw th op co
theorem i_up {k : Nat} {u : SX} {v : SY} (h : i_Rel k u v) : i_Rel (k + 5) u v := h
theorem zq_in {k n : Nat} {uc ck : Int32} {dat fre frm cw bas hld lrg lw lu th op co : Nat → Int32} (R : zq_R n uc dat fre frm cw bas hld lrg lw th op co) : i_Rel k (nI n, uc, ck, dat, fre, frm, cw, bas, hld, lrg, lw, lu) (nI n, th, op, co) := ⟨n, rfl, rfl, R⟩
theorem zq_el {P : SX → SY → Prop} {k : Nat} {u : SX} {v : SY} (I : i_Rel k u v) (h : ∀ (n : Nat) (uc ck : Int32) (dat fre frm cw bas hld lrg lw lu th op co : Nat → Int32), zq_R n uc dat fre frm cw bas hld lrg lw th op co → P (nI n, uc, ck, dat, fre, frm, cw, bas, hld, lrg, lw, lu) (nI n, th, op, co)) : P u v := by
  obtain ⟨fc, uc, ck, dat, fre, frm, cw, bas, hld, lrg, lw, lu⟩ := u
  obtain ⟨fr, th, op, co⟩ := v
  obtain ⟨n, rfl, rfl, R⟩ := I
  exact h n uc ck dat fre frm cw bas hld lrg lw lu th op co R
theorem i_vc_frames {k : Nat} {u : SX} {v : SY} (I : i_Rel k u v) (hk : k + 5 ≤ 2561) : wpX_frames (fun r => wpY_frames (fun r' => r' = r ∧ i_Rel (k + 5) u v) v) u := by
  refine zq_el (P := fun u v => wpX_frames (fun r => wpY_frames (fun r' => r' = r ∧ i_Rel (k + 5) u v) v) u) I ?_
  intro n uc ck dat fre frm cw bas hld lrg lw lu th op co R
  exact ⟨rfl, zq_in R⟩
theorem i_vc_used {k : Nat} {u : SX} {v : SY} (I : i_Rel k u v) (hk : k + 5 ≤ 2561) : wpX_used (fun r => wpY_used (fun r' => r' = r ∧ i_Rel (k + 5) u v) v) u := by
  refine zq_el (P := fun u v => wpX_used (fun r => wpY_used (fun r' => r' = r ∧ i_Rel (k + 5) u v) v) u) I ?_
  intro n uc ck dat fre frm cw bas hld lrg lw lu th op co R
  unfold wpX_used
  dsimp only
  obtain ⟨_, _, _, g, B, F, _, _, _, X1, X2, X3, _⟩ := id R
  exact zq_used ⟨X3.symm, zq_in R⟩
/-! mappedIn -/
theorem zq_miY {post : Int32 → Prop} {fr : Int32} {th op co : Nat → Int32} {s : Nat} (hs : s < 2) (h : post (nI (zq_c (fun q => th (32 * s + q)) 32))) :
    ∀ (d i : Nat), i + d = 32 → wY_mappedIn_14 post (nI s) fr th op co (d + 1) (nI (zq_c (fun q => th (32 * s + q)) i)) (nI i) := by
  intro d
  induction d with
  | zero =>
    intro i hi
    have : i = 32 := by omega
    subst this
    exact br_t (show (32 : Int32) ≤ nI 32 by decide) h
  | succ d ih =>
    intro i hi
    have hn := ih (i + 1) (by omega)
    have es : zq_c (fun q => th (32 * s + q)) (i + 1) = zq_c (fun q => th (32 * s + q)) i + (if th (32 * s + i) = 0 then 0 else 1) := rfl
    refine br_f (nI_ge (b := 32) (by omega) (by omega)) ?_
    rw [zq_ix32, nI_clamp (show 32 * s + i < 2 ^ 31 by omega)]
    refine ⟨vp_in_nI (by omega) (by omega), br_c (fun z => nm_r (nI_1 i) ?_) (fun z => nm_r (nI_1 _) (nm_r (nI_1 i) ?_))⟩
    · rw [es, if_pos z] at hn
      exact hn
    · rw [es, if_neg z] at hn
      exact hn
theorem zq_miX {post : Int32 → Prop} {fc uc ck : Int32} {dat fre frm cw bas hld lrg lw lu th : Nat → Int32} {s : Nat} (hs : s < 2) (h01 : zq_01 th) (hh : ∀ b, b < 16 → hld b = zq_H th b) (h : post (nI (zq_c (fun q => th (32 * s + q)) 32))) :
    ∀ (d i : Nat), i + d = 8 → wX_mappedIn_16 post (nI s) fc uc ck dat fre frm cw bas hld lrg lw lu (d + 1) (nI (zq_c (fun q => th (32 * s + q)) (4 * i))) (nI (8 * s + i)) := by
  have e8 : (8 * nI s) + 8 = nI (8 * s + 8) := by rw [show (8 : Int32) = nI 8 from rfl, pk_mul, nI_add]
  intro d
  induction d with
  | zero =>
    intro i hi
    have : i = 8 := by omega
    subst this
    exact br_t (by rw [e8]; exact nI_le (by omega) (by omega)) h
  | succ d ih =>
    intro i hi
    refine br_f (by rw [e8]; exact nI_ge (by omega) (by omega)) ⟨vp_in_nI (by omega) (by omega), ?_⟩
    rw [nI_clamp (show 8 * s + i < 2 ^ 31 by omega), hh (8 * s + i) (by omega)]
    refine zq_bits h01 (by omega) (nm_r (e' := nI (zq_c (fun q => th (32 * s + q)) (4 * (i + 1)))) ?_ (nm_r (nI_1 _) (ih (i + 1) (by omega))))
    have hf : (fun j => th (4 * (8 * s + i) + j)) = fun j => (fun q => th (32 * s + q)) (4 * i + j) := by
      funext j
      show th _ = th _
      exact congrArg th (by omega)
    rw [hf, zq_scs (t := fun q => th (32 * s + q)) (m := 4 * i) 4 (fun j hj => h01 (32 * s + (4 * i + j)) (by omega))]
    exact congrArg nI (congrArg (zq_c _) (by omega))
theorem i_vc_mappedIn {k : Nat} {u : SX} {v : SY} (I : i_Rel k u v) (hk : k + 5 ≤ 2561) (v1 : Int32) : wpX_mappedIn (fun r => wpY_mappedIn (fun r' => r' = r ∧ i_Rel (k + 5) u v) v v1) u v1 := by
  refine zq_el (P := fun u v => wpX_mappedIn (fun r => wpY_mappedIn (fun r' => r' = r ∧ i_Rel (k + 5) u v) v v1) u v1) I ?_
  intro n uc ck dat fre frm cw bas hld lrg lw lu th op co R
  have RI := zq_in (k := k + 5) (ck := ck) (lu := lu) R
  unfold wpX_mappedIn wpY_mappedIn
  dsimp only
  rcases zq_sp v1 with ⟨s, hs, rfl⟩ | bs
  · obtain ⟨_, _, _, g, B, F, _, _, _, X1, X2, X3, X4, X5, _⟩ := id R
    have e8 : 8 * nI s = nI (8 * s) := by rw [show (8 : Int32) = nI 8 from rfl, pk_mul]
    refine zq_spX hs (br_f (by decide) (nm_r e8 ⟨9, zq_miX hs X1 X5 ?_ 8 0 (by omega)⟩))
    exact zq_spY hs (br_t rfl ⟨33, zq_miY hs ⟨rfl, RI⟩ 32 0 (by omega)⟩)
  · exact bs.1 _ (br_t rfl (bs.2 _ _ _ _ _ (br_f (by decide) ⟨rfl, RI⟩)))
theorem i_vc_mapped {k : Nat} {u : SX} {v : SY} (I : i_Rel k u v) (hk : k + 5 ≤ 2561) (v1 : Int32) (v2 : Int32) : wpX_mapped (fun r => wpY_mapped (fun r' => r' = r ∧ i_Rel (k + 5) u v) v v1 v2) u v1 v2 := by
  refine zq_el (P := fun u v => wpX_mapped (fun r => wpY_mapped (fun r' => r' = r ∧ i_Rel (k + 5) u v) v v1 v2) u v1 v2) I ?_
  intro n uc ck dat fre frm cw bas hld lrg lw lu th op co R
  have RI := zq_in (k := k + 5) (ck := ck) (lu := lu) R
  unfold wpX_mapped wpY_mapped
  dsimp only
  rcases zq_sp v1 with ⟨s, hs, rfl⟩ | bs
  · rcases zq_pgc v2 with ⟨j, hj, rfl⟩ | bp
    · rw [zq_ix32, nI_clamp (show 32 * s + j < 2 ^ 31 by omega)]
      have hp : 32 * s + j < 64 := by omega
      refine zq_spX hs (br_f (by decide) (zq_pgX hj (br_f (by decide) (zq_has R hp (br_c (fun z => ?_) (fun z => ?_))))))
      · exact zq_spY hs (br_t rfl (zq_pgY hj (br_t rfl ⟨vp_in_nI hp (by omega), br_t z ⟨rfl, RI⟩⟩)))
      · exact zq_spY hs (br_t rfl (zq_pgY hj (br_t rfl ⟨vp_in_nI hp (by omega), br_f z ⟨rfl, RI⟩⟩)))
    · exact zq_spX hs (br_f (by decide) (bp.1 _ (br_t rfl (zq_spY hs (br_t rfl (bp.2 _ _ _ _ _ (br_f (by decide) ⟨rfl, RI⟩)))))))
  · exact bs.1 _ (br_t rfl (bs.2 _ _ _ _ _ (br_f (by decide) ⟨rfl, RI⟩)))
theorem i_vc_writable {k : Nat} {u : SX} {v : SY} (I : i_Rel k u v) (hk : k + 5 ≤ 2561) (v1 : Int32) (v2 : Int32) : wpX_writable (fun r => wpY_writable (fun r' => r' = r ∧ i_Rel (k + 5) u v) v v1 v2) u v1 v2 := by
  refine zq_el (P := fun u v => wpX_writable (fun r => wpY_writable (fun r' => r' = r ∧ i_Rel (k + 5) u v) v v1 v2) u v1 v2) I ?_
  intro n uc ck dat fre frm cw bas hld lrg lw lu th op co R
  have RI := zq_in (k := k + 5) (ck := ck) (lu := lu) R
  unfold wpX_writable wpY_writable
  dsimp only
  rcases zq_sp v1 with ⟨s, hs, rfl⟩ | bs
  · rcases zq_pgc v2 with ⟨j, hj, rfl⟩ | bp
    · rw [zq_ix32, nI_clamp (show 32 * s + j < 2 ^ 31 by omega)]
      have hp : 32 * s + j < 64 := by omega
      have hi : vp_in (nI (32 * s + j)) 64 := vp_in_nI hp (by omega)
      refine zq_spX hs (br_f (by decide) (zq_pgX hj (br_f (by decide) (nm_e (zq_has R hp (br_c (fun z => ?_) (fun z => zq_mayR R hp z (br_c (fun y => ?_) (fun y => ?_)))))))))
      · exact zq_spY hs (br_t rfl (zq_pgY hj (br_t rfl ⟨hi, br_t z ⟨rfl, RI⟩⟩)))
      · exact zq_spY hs (br_t rfl (zq_pgY hj (br_t rfl ⟨hi, br_f z ⟨hi, br_t y ⟨rfl, RI⟩⟩⟩)))
      · exact zq_spY hs (br_t rfl (zq_pgY hj (br_t rfl ⟨hi, br_f z ⟨hi, br_f y ⟨rfl, RI⟩⟩⟩)))
    · exact zq_spX hs (br_f (by decide) (bp.1 _ (br_t rfl (zq_spY hs (br_t rfl (bp.2 _ _ _ _ _ (br_f (by decide) ⟨rfl, RI⟩)))))))
  · exact bs.1 _ (br_t rfl (bs.2 _ _ _ _ _ (br_f (by decide) ⟨rfl, RI⟩)))
theorem i_vc_read {k : Nat} {u : SX} {v : SY} (I : i_Rel k u v) (hk : k + 5 ≤ 2561) (v1 : Int32) (v2 : Int32) : wpX_read (fun r => wpY_read (fun r' => r' = r ∧ i_Rel (k + 5) u v) v v1 v2) u v1 v2 := by
  refine zq_el (P := fun u v => wpX_read (fun r => wpY_read (fun r' => r' = r ∧ i_Rel (k + 5) u v) v v1 v2) u v1 v2) I ?_
  intro n uc ck dat fre frm cw bas hld lrg lw lu th op co R
  have RI := zq_in (k := k + 5) (ck := ck) (lu := lu) R
  unfold wpX_read wpY_read
  dsimp only
  rcases zq_sp v1 with ⟨s, hs, rfl⟩ | bs
  · rcases zq_pgc v2 with ⟨j, hj, rfl⟩ | bp
    · rw [zq_ix32, nI_clamp (show 32 * s + j < 2 ^ 31 by omega)]
      have hp : 32 * s + j < 64 := by omega
      have hi : vp_in (nI (32 * s + j)) 64 := vp_in_nI hp (by omega)
      refine zq_spX hs (br_f (by decide) (zq_pgX hj (br_f (by decide) (nm_e (zq_has R hp (br_c (fun z => ?_) (fun z => zq_conR R hp z ?_)))))))
      · exact zq_spY hs (br_t rfl (zq_pgY hj (br_t rfl ⟨hi, br_t z ⟨rfl, RI⟩⟩)))
      · exact zq_spY hs (br_t rfl (zq_pgY hj (br_t rfl ⟨hi, br_f z ⟨hi, rfl, RI⟩⟩)))
    · exact zq_spX hs (br_f (by decide) (bp.1 _ (br_t rfl (zq_spY hs (br_t rfl (bp.2 _ _ _ _ _ (br_f (by decide) ⟨rfl, RI⟩)))))))
  · exact bs.1 _ (br_t rfl (bs.2 _ _ _ _ _ (br_f (by decide) ⟨rfl, RI⟩)))
/-! sum, nextMapped: in lockstep -/
section
variable {n : Nat} {uc ck : Int32} {dat fre frm cw bas hld lrg lw lu th op co : Nat → Int32} {s : Nat}
theorem zq_sum (R : zq_R n uc dat fre frm cw bas hld lrg lw th op co) (hs : s < 2) : ∀ (d i : Nat) (x : Int32), i + d = 32 → ∃ r : Int32,
    (∀ post : Int32 → Prop, post r → wX_sum_16 post (nI s) (nI n) uc ck dat fre frm cw bas hld lrg lw lu (d + 1) x (nI (32 * s + i))) ∧
    (∀ post : Int32 → Prop, post r → wY_sum_14 post (nI s) (nI n) th op co (d + 1) x (nI i)) := by
  have e32 : (32 * nI s) + 32 = nI (32 * s + 32) := by rw [show (32 : Int32) = nI 32 from rfl, pk_mul, nI_add]
  intro d
  induction d with
  | zero =>
    intro i x hi
    exact ⟨x, fun post hp => br_t (by rw [e32]; exact nI_le (by omega) (by omega)) hp, fun post hp => br_t (nI_le (a := 32) (by omega) (by omega)) hp⟩
  | succ d ih =>
    intro i x hi
    have hp64 : 32 * s + i < 64 := by omega
    have hX : ¬ ((32 * nI s) + 32) ≤ nI (32 * s + i) := by rw [e32]; exact nI_ge (by omega) (by omega)
    have hY : ¬ (32 : Int32) ≤ nI i := nI_ge (b := 32) (by omega) (by omega)
    have hin : vp_in ((32 * nI s) + nI i) 64 := by rw [zq_ix32]; exact vp_in_nI hp64 (by omega)
    have ec : ((32 * nI s) + nI i).toNatClampNeg = 32 * s + i := by rw [zq_ix32]; exact nI_clamp (by omega)
    by_cases z : th (32 * s + i) = 0
    · obtain ⟨r, h1, h2⟩ := ih (i + 1) x (by omega)
      refine ⟨r, fun post hp => br_f hX (zq_has R hp64 (br_t z (nm_r (nI_1 _) (h1 post hp)))), fun post hp => br_f hY ⟨hin, ?_⟩⟩
      rw [ec]
      exact br_t z (nm_r (nI_1 _) (h2 post hp))
    · obtain ⟨r, h1, h2⟩ := ih (i + 1) (x + co (32 * s + i)) (by omega)
      refine ⟨r, fun post hp => br_f hX (zq_has R hp64 (br_f z (zq_conR R hp64 z (nm_e (nm_r (nI_1 _) (h1 post hp)))))), fun post hp => br_f hY ⟨hin, ?_⟩⟩
      rw [ec]
      exact br_f z ⟨hin, nm_e (nm_r (nI_1 _) (h2 post hp))⟩
theorem zq_next (R : zq_R n uc dat fre frm cw bas hld lrg lw th op co) (hs : s < 2) : ∀ (d i : Nat), i + d = 32 → ∃ r : Int32,
    (∀ post : Int32 → Prop, post r → wX_nextMapped_21 post (nI s) (nI n) uc ck dat fre frm cw bas hld lrg lw lu (d + 1) (nI i)) ∧
    (∀ post : Int32 → Prop, post r → wY_nextMapped_23 post (nI s) (nI n) th op co (d + 1) (nI i)) := by
  intro d
  induction d with
  | zero =>
    intro i hi
    have h : (32 : Int32) ≤ nI i := nI_le (a := 32) (by omega) (by omega)
    exact ⟨-3, fun post hp => br_t h hp, fun post hp => br_t h hp⟩
  | succ d ih =>
    intro i hi
    have hp64 : 32 * s + i < 64 := by omega
    have hY : ¬ (32 : Int32) ≤ nI i := nI_ge (b := 32) (by omega) (by omega)
    have hin : vp_in ((32 * nI s) + nI i) 64 := by rw [zq_ix32]; exact vp_in_nI hp64 (by omega)
    have ec : ((32 * nI s) + nI i).toNatClampNeg = 32 * s + i := by rw [zq_ix32]; exact nI_clamp (by omega)
    by_cases z : th (32 * s + i) = 0
    · obtain ⟨r, h1, h2⟩ := ih (i + 1) (by omega)
      refine ⟨r, fun post hp => br_f hY ?_, fun post hp => br_f hY ⟨hin, ?_⟩⟩
      · rw [zq_ix32]
        exact zq_has R hp64 (br_t z (nm_r (nI_1 _) (h1 post hp)))
      · rw [ec]
        exact br_t z (nm_r (nI_1 _) (h2 post hp))
    · refine ⟨nI i, fun post hp => br_f hY ?_, fun post hp => br_f hY ⟨hin, ?_⟩⟩
      · rw [zq_ix32]
        exact zq_has R hp64 (br_f z hp)
      · rw [ec]
        exact br_f z hp
end
theorem i_vc_sum {k : Nat} {u : SX} {v : SY} (I : i_Rel k u v) (hk : k + 5 ≤ 2561) (v1 : Int32) : wpX_sum (fun r => wpY_sum (fun r' => r' = r ∧ i_Rel (k + 5) u v) v v1) u v1 := by
  refine zq_el (P := fun u v => wpX_sum (fun r => wpY_sum (fun r' => r' = r ∧ i_Rel (k + 5) u v) v v1) u v1) I ?_
  intro n uc ck dat fre frm cw bas hld lrg lw lu th op co R
  have RI := zq_in (k := k + 5) (ck := ck) (lu := lu) R
  unfold wpX_sum wpY_sum
  dsimp only
  rcases zq_sp v1 with ⟨s, hs, rfl⟩ | bs
  · obtain ⟨r, h1, h2⟩ := zq_sum (ck := ck) (lu := lu) R hs 32 0 0 (by omega)
    have e32 : 32 * nI s = nI (32 * s + 0) := by rw [show (32 : Int32) = nI 32 from rfl, pk_mul]; rfl
    exact zq_spX hs (br_f (by decide) (nm_r e32 ⟨33, h1 _ (zq_spY hs (br_t rfl ⟨33, h2 _ ⟨rfl, RI⟩⟩))⟩))
  · exact bs.1 _ (br_t rfl (bs.2 _ _ _ _ _ (br_f (by decide) ⟨rfl, RI⟩)))
theorem i_vc_nextMapped {k : Nat} {u : SX} {v : SY} (I : i_Rel k u v) (hk : k + 5 ≤ 2561) (v1 : Int32) (v2 : Int32) : wpX_nextMapped (fun r => wpY_nextMapped (fun r' => r' = r ∧ i_Rel (k + 5) u v) v v1 v2) u v1 v2 := by
  refine zq_el (P := fun u v => wpX_nextMapped (fun r => wpY_nextMapped (fun r' => r' = r ∧ i_Rel (k + 5) u v) v v1 v2) u v1 v2) I ?_
  intro n uc ck dat fre frm cw bas hld lrg lw lu th op co R
  have RI := zq_in (k := k + 5) (ck := ck) (lu := lu) R
  unfold wpX_nextMapped wpY_nextMapped
  dsimp only
  rcases zq_sp v1 with ⟨s, hs, rfl⟩ | bs
  · rcases zq_pgc v2 with ⟨j, hj, rfl⟩ | bp
    · obtain ⟨r, h1, h2⟩ := zq_next (ck := ck) (lu := lu) R hs (32 - j) j (by omega)
      exact zq_spX hs (br_f (by decide) (zq_pgX hj (br_f (by decide) ⟨_, h1 _ (zq_spY hs (br_t rfl (zq_pgY hj (br_t rfl ⟨_, h2 _ ⟨rfl, RI⟩⟩))))⟩)))
    · exact zq_spX hs (br_f (by decide) (bp.1 _ (br_t rfl (zq_spY hs (br_t rfl (bp.2 _ _ _ _ _ (br_f (by decide) ⟨rfl, RI⟩)))))))
  · exact bs.1 _ (br_t rfl (bs.2 _ _ _ _ _ (br_f (by decide) ⟨rfl, RI⟩)))
end
section
/-! the storing loops, both sides in one outcome -/
theorem zq_Rext {n : Nat} {uc : Int32} {dat fre frm cw bas hld lrg lw th op co op' co' : Nat → Int32} (R : zq_R n uc dat fre frm cw bas hld lrg lw th op co) (h01 : zq_01 op') (h : ∀ p, p < 64 → th p ≠ 0 → op' p = op p ∧ co' p = co p) : zq_R n uc dat fre frm cw bas hld lrg lw th op' co' := by
  obtain ⟨h8, h0, hn, g, B, F, U, A, A6, X1, X2, X3, X4, X5, X6, X7, X8⟩ := R
  refine ⟨h8, h0, hn, g, B, F, U, A, A6, X1, h01, X3, X4, X5, fun p hp tp hl => ?_, fun b hb hl => ?_, fun p hp tp => ?_⟩
  · rw [(h p hp tp).1]; exact X6 p hp tp hl
  · have x7 := X7 b hb hl
    refine ⟨x7.1, x7.2.1, fun j hj => ?_⟩
    rw [(h (4 * b + j) (by omega) (by rw [(zq_H15 X1 hb).mp x7.2.1 j hj]; decide)).1]
    exact x7.2.2 j hj
  · rw [(h p hp tp).2]; exact X8 p hp tp
theorem zq_ucR {n : Nat} {uc : Int32} {dat fre frm cw bas hld lrg lw th op co : Nat → Int32} (R : zq_R n uc dat fre frm cw bas hld lrg lw th op co) : uc = nI (zq_c th 64) ∧ zq_c th 64 ≤ n ∧ n ≤ 48 ∧ zq_01 th ∧ zq_01 op := by
  obtain ⟨h8, h0, hn, g, B, F, U, A, A6, X1, X2, X3, _⟩ := R
  exact ⟨X3, zq_cle A, hn, X1, X2⟩
theorem zq_ucm {f : Nat → Int32} {p q : Nat} {x y : Int32} (h : p ≠ q) : upd (upd f p x) q y = upd (upd f q y) p x := by
  funext j
  by_cases e : j = p
  · rw [e, pk_un h, pk_us, pk_us]
  · by_cases e2 : j = q
    · rw [e2, pk_us, pk_un (fun z => h z.symm), pk_us]
    · rw [pk_un e2, pk_un e, pk_un e, pk_un e2]
theorem zq_make {post : SY → Prop} {fr x : Int32} {th op co : Nat → Int32} {p : Nat} (hp : p < 64) (h : post (fr, upd th p 1, upd op p 1, upd co p x)) : wpY_make post (fr, th, op, co) (nI p) x := by
  have hi : vp_in (nI p) 64 := vp_in_nI hp (by omega)
  have e : (nI p).toNatClampNeg = p := nI_clamp (by omega)
  unfold wpY_make
  dsimp only
  rw [e]
  exact ⟨hi, nm_e ⟨hi, nm_e ⟨hi, nm_e h⟩⟩⟩
theorem zq_copy {post : SY → Prop} {fr : Int32} {th op co : Nat → Int32} {p q : Nat} (hp : p < 64) (hq : q < 64) (h01 : zq_01 th) (o01 : zq_01 op) (h : post (fr, upd th q (th p), upd op q (op p), upd co q (co p))) : wpY_copy post (fr, th, op, co) (nI p) (nI q) := by
  have hi : vp_in (nI p) 64 := vp_in_nI hp (by omega)
  have hj : vp_in (nI q) 64 := vp_in_nI hq (by omega)
  have e : (nI p).toNatClampNeg = p := nI_clamp (by omega)
  have e2 : (nI q).toNatClampNeg = q := nI_clamp (by omega)
  unfold wpY_copy
  dsimp only
  rw [e, e2, zq_vb (h01 p hp), zq_vb (o01 p hp)]
  exact ⟨hi, hj, nm_e ⟨hi, hj, nm_e ⟨hi, hj, nm_e h⟩⟩⟩
section
variable {n s i m : Nat}
/-! map: how many pages are wanting -/
theorem zq_m35X {post : Int32 → SX → Prop} {uc ck : Int32} {dat fre frm cw bas hld lrg lw lu th op co : Nat → Int32} (R : zq_R n uc dat fre frm cw bas hld lrg lw th op co) (hs : s < 2) (hi : i + m ≤ 32)
    (h : (((uc + nI (zq_r th m (32 * s + i))) ≤ nI n → (∃ n83 : Nat, wX_map_83 post (nI m) (nI (32 * s + i)) (nI (zq_r th m (32 * s + i))) n83 (nI (32 * s + i)) (nI n) uc ck dat fre frm cw bas hld lrg lw lu)) ∧ (¬ (uc + nI (zq_r th m (32 * s + i))) ≤ nI n → (post (-3) (nI n, uc, ck, dat, fre, frm, cw, bas, hld, lrg, lw, lu))))) :
    ∀ (d q c : Nat), q + d = 32 * s + i + m → c + zq_r th d q = zq_r th m (32 * s + i) → wX_map_35 post (nI m) (nI (32 * s + i)) (nI n) uc ck dat fre frm cw bas hld lrg lw lu (d + 1) (nI c) (nI q) := by
  intro d
  induction d with
  | zero =>
    intro q c hq hc
    have hc' : c = zq_r th m (32 * s + i) := hc
    subst hc'
    exact br_t (by rw [nI_add]; exact nI_le (by omega) (by omega)) h
  | succ d ih =>
    intro q c hq hc
    have es : zq_r th (d + 1) q = (if th q = 0 then 1 else 0) + zq_r th d (q + 1) := rfl
    rw [es] at hc
    refine br_f (by rw [nI_add]; exact nI_ge (by omega) (by omega)) (zq_has R (by omega) (br_c (fun z => ?_) (fun z => ?_)))
    · rw [if_pos z] at hc
      exact nm_r (nI_1 c) (nm_r (nI_1 q) (ih (q + 1) (c + 1) (by omega) (by omega)))
    · rw [if_neg z] at hc
      exact nm_r (nI_1 q) (ih (q + 1) c (by omega) (by omega))
theorem zq_m28Y {post : Int32 → SY → Prop} {th op co : Nat → Int32} (hs : s < 2) (hi : i + m ≤ 32)
    (h : wpY_used (fun r => (((r + nI (zq_r th m (32 * s + i))) ≤ nI n → (∃ n80 : Nat, wY_map_80 post (nI s) (nI i) (nI m) (nI (zq_r th m (32 * s + i))) n80 (nI i) (nI n) th op co)) ∧ (¬ (r + nI (zq_r th m (32 * s + i))) ≤ nI n → (post (-3) (nI n, th, op, co))))) (nI n, th, op, co)) :
    ∀ (d q c : Nat), q + d = i + m → c + zq_r th d (32 * s + q) = zq_r th m (32 * s + i) → wY_map_28 post (nI s) (nI i) (nI m) (nI n) th op co (d + 1) (nI c) (nI q) := by
  intro d
  induction d with
  | zero =>
    intro q c hq hc
    have hc' : c = zq_r th m (32 * s + i) := hc
    subst hc'
    exact br_t (by rw [nI_add]; exact nI_le (by omega) (by omega)) h
  | succ d ih =>
    intro q c hq hc
    have es : zq_r th (d + 1) (32 * s + q) = (if th (32 * s + q) = 0 then 1 else 0) + zq_r th d (32 * s + (q + 1)) := rfl
    rw [es] at hc
    refine br_f (by rw [nI_add]; exact nI_ge (by omega) (by omega)) ?_
    rw [zq_ix32, nI_clamp (show 32 * s + q < 2 ^ 31 by omega)]
    refine ⟨vp_in_nI (by omega) (by omega), br_c (fun z => ?_) (fun z => ?_)⟩
    · rw [if_pos z] at hc
      exact nm_r (nI_1 c) (nm_r (nI_1 q) (ih (q + 1) (c + 1) (by omega) (by omega)))
    · rw [if_neg z] at hc
      exact nm_r (nI_1 q) (ih (q + 1) c (by omega) (by omega))
/-! map: the pages that are wanting -/
theorem zq_map2 {x : Int32} (hs : s < 2) (hi : i + m ≤ 32) : ∀ (d q : Nat) (th op co : Nat → Int32), q + d = i + m → zq_01 th → zq_c th 64 + zq_r th d (32 * s + q) ≤ n →
    ∃ th' op' co' : Nat → Int32, (∀ post : Int32 → SY → Prop, post x (nI n, th', op', co') → wY_map_80 post (nI s) (nI i) (nI m) x (d + 1) (nI q) (nI n) th op co) ∧
    (∀ (post : Int32 → SX → Prop) (uc ck : Int32) (dat fre frm cw bas hld lrg lw lu : Nat → Int32), zq_R n uc dat fre frm cw bas hld lrg lw th op co → zq_Q (post x) n th' op' co' → wX_map_83 post (nI m) (nI (32 * s + i)) x (d + 1) (nI (32 * s + q)) (nI n) uc ck dat fre frm cw bas hld lrg lw lu) := by
  intro d
  induction d with
  | zero =>
    intro q th op co hq _ _
    refine ⟨th, op, co, fun post h => br_t (by rw [nI_add]; exact nI_le (by omega) (by omega)) h, fun post uc ck dat fre frm cw bas hld lrg lw lu R h => br_t (by rw [nI_add]; exact nI_le (by omega) (by omega)) (h _ _ _ _ _ _ _ _ _ _ _ R)⟩
  | succ d ih =>
    intro q th op co hq h01 hc
    have es : zq_r th (d + 1) (32 * s + q) = (if th (32 * s + q) = 0 then 1 else 0) + zq_r th d (32 * s + (q + 1)) := rfl
    rw [es] at hc
    have hp : 32 * s + q < 64 := by omega
    have hX : ¬ (nI (32 * s + i) + nI m) ≤ nI (32 * s + q) := by rw [nI_add]; exact nI_ge (by omega) (by omega)
    have hY : ¬ (nI i + nI m) ≤ nI q := by rw [nI_add]; exact nI_ge (by omega) (by omega)
    have hin : vp_in (nI (32 * s + q)) 64 := vp_in_nI hp (by omega)
    have eX : nI (32 * s + q) + 1 = nI (32 * s + (q + 1)) := nI_1 _
    by_cases z : th (32 * s + q) = 0
    · rw [if_pos z] at hc
      have hr : zq_r (upd th (32 * s + q) 1) d (32 * s + (q + 1)) = zq_r th d (32 * s + (q + 1)) := zq_r_u d _ (by omega)
      have hcc := zq_c_1 z 64 hp
      obtain ⟨th', op', co', h1, h2⟩ := ih (q + 1) (upd th (32 * s + q) 1) (upd op (32 * s + q) 1) (upd co (32 * s + q) 0) (by omega) (zq_01u h01 (Or.inr rfl)) (by omega)
      refine ⟨th', op', co', fun post h => br_f hY ?_, fun post uc ck dat fre frm cw bas hld lrg lw lu R h => br_f hX (zq_has R hp (br_t z ?_))⟩
      · rw [zq_ix32, nI_clamp (show 32 * s + q < 2 ^ 31 by omega)]
        exact ⟨hin, br_t z (zq_make hp (nm_r (nI_1 q) (h1 post h)))⟩
      · refine zq_bring R hp z (by omega) (Or.inr rfl) (fun uc1 ck1 dat1 fre1 frm1 cw1 bas1 hld1 lrg1 lw1 lu1 R1 => nm_r eX ?_)
        exact h2 post uc1 ck1 dat1 fre1 frm1 cw1 bas1 hld1 lrg1 lw1 lu1 R1 h
    · rw [if_neg z] at hc
      obtain ⟨th', op', co', h1, h2⟩ := ih (q + 1) th op co (by omega) h01 (by omega)
      refine ⟨th', op', co', fun post h => br_f hY ?_, fun post uc ck dat fre frm cw bas hld lrg lw lu R h => br_f hX (zq_has R hp (br_f z (nm_r eX (h2 post uc ck dat fre frm cw bas hld lrg lw lu R h))))⟩
      rw [zq_ix32, nI_clamp (show 32 * s + q < 2 ^ 31 by omega)]
      exact ⟨hin, br_f z (nm_r (nI_1 q) (h1 post h))⟩
/-! unmap -/
theorem zq_unm (hs : s < 2) (hi : i + m ≤ 32) : ∀ (d q : Nat) (x : Int32) (th op co : Nat → Int32), q + d = i + m → zq_01 th →
    ∃ (r : Int32) (th' : Nat → Int32), (∀ post : Int32 → SY → Prop, post r (nI n, th', op, co) → wY_unmap_28 post (nI s) (nI i) (nI m) (nI n) (d + 1) x (nI q) th op co) ∧
    (∀ (post : Int32 → SX → Prop) (uc ck : Int32) (dat fre frm cw bas hld lrg lw lu : Nat → Int32), zq_R n uc dat fre frm cw bas hld lrg lw th op co → zq_Q (post r) n th' op co → wX_unmap_35 post (nI m) (nI (32 * s + i)) (d + 1) x (nI (32 * s + q)) (nI n) uc ck dat fre frm cw bas hld lrg lw lu) := by
  intro d
  induction d with
  | zero =>
    intro q x th op co hq _
    refine ⟨x, th, fun post h => br_t (by rw [nI_add]; exact nI_le (by omega) (by omega)) h, fun post uc ck dat fre frm cw bas hld lrg lw lu R h => br_t (by rw [nI_add]; exact nI_le (by omega) (by omega)) (h _ _ _ _ _ _ _ _ _ _ _ R)⟩
  | succ d ih =>
    intro q x th op co hq h01
    have hp : 32 * s + q < 64 := by omega
    have hX : ¬ (nI (32 * s + i) + nI m) ≤ nI (32 * s + q) := by rw [nI_add]; exact nI_ge (by omega) (by omega)
    have hY : ¬ (nI i + nI m) ≤ nI q := by rw [nI_add]; exact nI_ge (by omega) (by omega)
    have hin : vp_in (nI (32 * s + q)) 64 := vp_in_nI hp (by omega)
    have eX : nI (32 * s + q) + 1 = nI (32 * s + (q + 1)) := nI_1 _
    have e54 : ∀ (post : Int32 → SY → Prop) (J : Int32 → Int32 → (Nat → Int32) → (Nat → Int32) → (Nat → Int32) → Prop) (y : Int32), J y (nI (q + 1)) (upd th (32 * s + q) 0) op co → wY_unmap_54 post J (nI s) (nI i) (nI m) y (nI q) (nI n) th op co := by
      intro post J y h
      unfold wY_unmap_54
      rw [zq_ix32, nI_clamp (show 32 * s + q < 2 ^ 31 by omega)]
      exact ⟨hin, nm_e (nm_r (nI_1 q) h)⟩
    by_cases z : th (32 * s + q) = 0
    · obtain ⟨r, th', h1, h2⟩ := ih (q + 1) x th op co (by omega) h01
      have eu : upd th (32 * s + q) 0 = th := zq_uid z
      refine ⟨r, th', fun post h => br_f hY ?_, fun post uc ck dat fre frm cw bas hld lrg lw lu R h => br_f hX (zq_has R hp (br_t z (nm_r eX (h2 post uc ck dat fre frm cw bas hld lrg lw lu R h))))⟩
      rw [zq_ix32, nI_clamp (show 32 * s + q < 2 ^ 31 by omega)]
      refine ⟨hin, br_t z (e54 _ _ _ ?_)⟩
      rw [eu]
      exact h1 post h
    · obtain ⟨r, th', h1, h2⟩ := ih (q + 1) (x + 1) (upd th (32 * s + q) 0) op co (by omega) (zq_01u h01 (Or.inl rfl))
      refine ⟨r, th', fun post h => br_f hY ?_, fun post uc ck dat fre frm cw bas hld lrg lw lu R h => br_f hX (zq_has R hp (br_f z ?_))⟩
      · rw [zq_ix32, nI_clamp (show 32 * s + q < 2 ^ 31 by omega)]
        exact ⟨hin, br_f z (nm_e (e54 _ _ _ (h1 post h)))⟩
      · refine zq_take R hp z (fun uc1 ck1 dat1 fre1 frm1 cw1 bas1 hld1 lrg1 lw1 lu1 R1 => nm_e (nm_r eX ?_))
        exact h2 post uc1 ck1 dat1 fre1 frm1 cw1 bas1 hld1 lrg1 lw1 lu1 R1 h
/-! protect -/
theorem zq_prot {fl w : Int32} (hs : s < 2) (hi : i + m ≤ 32) (hw : (fl = 0 ∧ w = 0) ∨ (¬ fl = 0 ∧ w = 1)) : ∀ (d q : Nat) (x : Int32) (th op co : Nat → Int32), q + d = i + m →
    ∃ (r : Int32) (op' : Nat → Int32), (∀ post : Int32 → SY → Prop, post r (nI n, th, op', co) → wY_protect_40 post (nI s) (nI i) (nI m) w (nI n) (d + 1) x (nI q) th op co) ∧
    (∀ (post : Int32 → SX → Prop) (uc ck : Int32) (dat fre frm cw bas hld lrg lw lu : Nat → Int32), zq_R n uc dat fre frm cw bas hld lrg lw th op co → zq_Q (post r) n th op' co → wX_protect_35 post (nI m) fl (nI (32 * s + i)) (d + 1) x (nI (32 * s + q)) (nI n) uc ck dat fre frm cw bas hld lrg lw lu) := by
  have w01 : w = 0 ∨ w = 1 := hw.elim (fun z => Or.inl z.2) (fun z => Or.inr z.2)
  intro d
  induction d with
  | zero =>
    intro q x th op co hq
    refine ⟨x, op, fun post h => br_t (by rw [nI_add]; exact nI_le (by omega) (by omega)) h, fun post uc ck dat fre frm cw bas hld lrg lw lu R h => br_t (by rw [nI_add]; exact nI_le (by omega) (by omega)) (h _ _ _ _ _ _ _ _ _ _ _ R)⟩
  | succ d ih =>
    intro q x th op co hq
    have hp : 32 * s + q < 64 := by omega
    have hX : ¬ (nI (32 * s + i) + nI m) ≤ nI (32 * s + q) := by rw [nI_add]; exact nI_ge (by omega) (by omega)
    have hY : ¬ (nI i + nI m) ≤ nI q := by rw [nI_add]; exact nI_ge (by omega) (by omega)
    have hin : vp_in (nI (32 * s + q)) 64 := vp_in_nI hp (by omega)
    have eX : nI (32 * s + q) + 1 = nI (32 * s + (q + 1)) := nI_1 _
    have eq : (nI (32 * s + q)).toNatClampNeg = 32 * s + q := nI_clamp (by omega)
    by_cases z : th (32 * s + q) = 0
    · obtain ⟨r, op', h1, h2⟩ := ih (q + 1) x th op co (by omega)
      refine ⟨r, op', fun post h => br_f hY (nm_r zq_ix32 ?_), fun post uc ck dat fre frm cw bas hld lrg lw lu R h => br_f hX (zq_has R hp (br_t z (nm_r eX (h2 post uc ck dat fre frm cw bas hld lrg lw lu R h))))⟩
      rw [eq]
      exact ⟨hin, br_t z (nm_r (nI_1 q) (h1 post h))⟩
    · by_cases y : op (32 * s + q) = w
      · obtain ⟨r, op', h1, h2⟩ := ih (q + 1) x th op co (by omega)
        refine ⟨r, op', fun post h => br_f hY (nm_r zq_ix32 ?_), fun post uc ck dat fre frm cw bas hld lrg lw lu R h => br_f hX (zq_has R hp (br_f z (zq_mayR R hp z ?_)))⟩
        · rw [eq]
          exact ⟨hin, br_f z ⟨hin, br_t y (nm_r (nI_1 q) (h1 post h))⟩⟩
        · have h3 := h2 post uc ck dat fre frm cw bas hld lrg lw lu R h
          rcases hw with ⟨f0, rfl⟩ | ⟨f0, rfl⟩
          · exact br_t f0 (br_t y (nm_r eX h3))
          · exact br_f f0 (br_t y (nm_r eX h3))
      · obtain ⟨r, op', h1, h2⟩ := ih (q + 1) (x + 1) th (upd op (32 * s + q) w) co (by omega)
        refine ⟨r, op', fun post h => br_f hY (nm_r zq_ix32 ?_), fun post uc ck dat fre frm cw bas hld lrg lw lu R h => br_f hX (zq_has R hp (br_f z (zq_mayR R hp z ?_)))⟩
        · rw [eq, zq_vb w01]
          exact ⟨hin, br_f z ⟨hin, br_f y ⟨hin, nm_e (nm_e (nm_r (nI_1 q) (h1 post h)))⟩⟩⟩
        · have h3 : ∀ (uc1 ck1 : Int32) (dat1 fre1 frm1 cw1 bas1 hld1 lrg1 lw1 lu1 : Nat → Int32), zq_R n uc1 dat1 fre1 frm1 cw1 bas1 hld1 lrg1 lw1 th (upd op (32 * s + q) w) co → wX_protect_35 post (nI m) fl (nI (32 * s + i)) (d + 1) (x + 1) (nI (32 * s + (q + 1))) (nI n) uc1 ck1 dat1 fre1 frm1 cw1 bas1 hld1 lrg1 lw1 lu1 := fun uc1 ck1 dat1 fre1 frm1 cw1 bas1 hld1 lrg1 lw1 lu1 R1 => h2 post uc1 ck1 dat1 fre1 frm1 cw1 bas1 hld1 lrg1 lw1 lu1 R1 h
          rcases hw with ⟨f0, rfl⟩ | ⟨f0, rfl⟩
          · exact br_t f0 (br_f y (br_t f0 (zq_setW R hp z w01 (fun frm1 cw1 lrg1 lw1 R1 => nm_e (nm_r eX (h3 _ _ _ _ _ _ _ _ _ _ _ R1))))))
          · exact br_f f0 (br_f y (br_f f0 (zq_setW R hp z w01 (fun frm1 cw1 lrg1 lw1 R1 => nm_e (nm_r eX (h3 _ _ _ _ _ _ _ _ _ _ _ R1))))))
/-! stamp -/
theorem zq_stm {a y : Int32} (hs : s < 2) (hi : i + m ≤ 32) (ha : a &&& 63 = nI m) : ∀ (d q : Nat) (x : Int32) (th op co : Nat → Int32), q + d = i + m →
    ∃ (r : Int32) (co' : Nat → Int32), (∀ post : Int32 → SY → Prop, post r (nI n, th, op, co') → wY_stamp_50 post (nI s) y (nI i) (nI m) (nI n) (d + 1) x (nI q) th op co) ∧
    (∀ (post : Int32 → SX → Prop) (uc ck : Int32) (dat fre frm cw bas hld lrg lw lu : Nat → Int32), zq_R n uc dat fre frm cw bas hld lrg lw th op co → zq_Q (post r) n th op co' → wX_stamp_48 post a y (nI (32 * s + i)) (d + 1) x (nI (32 * s + q)) (nI n) uc ck dat fre frm cw bas hld lrg lw lu) := by
  intro d
  induction d with
  | zero =>
    intro q x th op co hq
    refine ⟨x, co, fun post h => br_t (by rw [nI_add]; exact nI_le (by omega) (by omega)) h, fun post uc ck dat fre frm cw bas hld lrg lw lu R h => br_t (by rw [ha, nI_add]; exact nI_le (by omega) (by omega)) (h _ _ _ _ _ _ _ _ _ _ _ R)⟩
  | succ d ih =>
    intro q x th op co hq
    have hp : 32 * s + q < 64 := by omega
    have hX : ¬ (nI (32 * s + i) + (a &&& 63)) ≤ nI (32 * s + q) := by rw [ha, nI_add]; exact nI_ge (by omega) (by omega)
    have hY : ¬ (nI i + nI m) ≤ nI q := by rw [nI_add]; exact nI_ge (by omega) (by omega)
    have hin : vp_in (nI (32 * s + q)) 64 := vp_in_nI hp (by omega)
    have eX : nI (32 * s + q) + 1 = nI (32 * s + (q + 1)) := nI_1 _
    have eq : (nI (32 * s + q)).toNatClampNeg = 32 * s + q := nI_clamp (by omega)
    by_cases z : th (32 * s + q) = 0
    · obtain ⟨r, co', h1, h2⟩ := ih (q + 1) x th op co (by omega)
      refine ⟨r, co', fun post h => br_f hY (nm_r zq_ix32 ?_), fun post uc ck dat fre frm cw bas hld lrg lw lu R h => br_f hX (zq_has R hp (br_t z (nm_r eX (h2 post uc ck dat fre frm cw bas hld lrg lw lu R h))))⟩
      rw [eq]
      exact ⟨hin, br_t z (nm_r (nI_1 q) (h1 post h))⟩
    · obtain ⟨r, co', h1, h2⟩ := ih (q + 1) (x + 1) th op (upd co (32 * s + q) (y + x)) (by omega)
      refine ⟨r, co', fun post h => br_f hY (nm_r zq_ix32 ?_), fun post uc ck dat fre frm cw bas hld lrg lw lu R h => br_f hX (zq_has R hp (br_f z ?_))⟩
      · rw [eq]
        exact ⟨hin, br_f z ⟨hin, nm_e (nm_e (nm_r (nI_1 q) (h1 post h)))⟩⟩
      · exact zq_setC R hp z (fun ck1 dat1 lu1 R1 => nm_e (nm_r eX (h2 post uc ck1 dat1 fre frm cw bas hld lrg lw lu1 R1 h)))
end
end
section
/-! the methods that store -/
theorem i_vc_map {k : Nat} {u : SX} {v : SY} (I : i_Rel k u v) (hk : k + 5 ≤ 2561) (v1 : Int32) (v2 : Int32) (v3 : Int32) : wpX_map (fun r u' => wpY_map (fun r' v' => r' = r ∧ i_Rel (k + 5) u' v') v v1 v2 v3) u v1 v2 v3 := by
  refine zq_el (P := fun u v => wpX_map (fun r u' => wpY_map (fun r' v' => r' = r ∧ i_Rel (k + 5) u' v') v v1 v2 v3) u v1 v2 v3) I ?_
  intro n uc ck dat fre frm cw bas hld lrg lw lu th op co R
  have RI := zq_in (k := k + 5) (ck := ck) (lu := lu) R
  unfold wpX_map wpY_map
  dsimp only
  rcases zq_sp v1 with ⟨s, hs, rfl⟩ | bs
  · rcases zq_rg v2 v3 with ⟨i, m, hm, hi, rfl, rfl⟩ | br
    · obtain ⟨eu, hcn, hn, t01, o01⟩ := zq_ucR R
      have hr := zq_r_le (th := th) m (32 * s + i)
      refine zq_spX hs (br_f (by decide) (zq_rgX hm hi (br_f (by decide) (nm_r zq_ix32 ⟨m + 1, zq_m35X R hs hi ?_ m (32 * s + i) 0 (by omega) (by omega)⟩))))
      rw [eu, nI_add]
      refine pk_le _ _ (fun hle => ?_) (fun hlt => ?_)
      · obtain ⟨th', op', co', h1, h2⟩ := zq_map2 (n := n) (x := nI (zq_r th m (32 * s + i))) hs hi m i th op co (by omega) t01 hle
        rw [← eu]
        refine ⟨m + 1, h2 _ uc ck dat fre frm cw bas hld lrg lw lu R (fun uc1 ck1 dat1 fre1 frm1 cw1 bas1 hld1 lrg1 lw1 lu1 R1 => ?_)⟩
        refine zq_spY hs (br_t rfl (zq_rgY hm hi (br_t rfl ⟨m + 1, zq_m28Y hs hi (zq_used ?_) m i 0 (by omega) (by omega)⟩)))
        rw [nI_add]
        exact br_t (nI_le hle (by omega)) ⟨m + 1, h1 _ ⟨rfl, zq_in R1⟩⟩
      · rw [← eu]
        refine zq_spY hs (br_t rfl (zq_rgY hm hi (br_t rfl ⟨m + 1, zq_m28Y hs hi (zq_used ?_) m i 0 (by omega) (by omega)⟩)))
        rw [nI_add]
        exact br_f (nI_ge hlt (by omega)) ⟨rfl, RI⟩
    · exact zq_spX hs (br_f (by decide) (br.1 _ (br_t rfl (zq_spY hs (br_t rfl (br.2 _ _ _ _ _ (br_f (by decide) ⟨rfl, RI⟩)))))))
  · exact bs.1 _ (br_t rfl (bs.2 _ _ _ _ _ (br_f (by decide) ⟨rfl, RI⟩)))
theorem i_vc_unmap {k : Nat} {u : SX} {v : SY} (I : i_Rel k u v) (hk : k + 5 ≤ 2561) (v1 : Int32) (v2 : Int32) (v3 : Int32) : wpX_unmap (fun r u' => wpY_unmap (fun r' v' => r' = r ∧ i_Rel (k + 5) u' v') v v1 v2 v3) u v1 v2 v3 := by
  refine zq_el (P := fun u v => wpX_unmap (fun r u' => wpY_unmap (fun r' v' => r' = r ∧ i_Rel (k + 5) u' v') v v1 v2 v3) u v1 v2 v3) I ?_
  intro n uc ck dat fre frm cw bas hld lrg lw lu th op co R
  have RI := zq_in (k := k + 5) (ck := ck) (lu := lu) R
  unfold wpX_unmap wpY_unmap
  dsimp only
  rcases zq_sp v1 with ⟨s, hs, rfl⟩ | bs
  · rcases zq_rg v2 v3 with ⟨i, m, hm, hi, rfl, rfl⟩ | br
    · obtain ⟨eu, hcn, hn, t01, o01⟩ := zq_ucR R
      obtain ⟨r, th', h1, h2⟩ := zq_unm (n := n) hs hi m i 0 th op co (by omega) t01
      refine zq_spX hs (br_f (by decide) (zq_rgX hm hi (br_f (by decide) (nm_r zq_ix32 ⟨m + 1, h2 _ uc ck dat fre frm cw bas hld lrg lw lu R (fun uc1 ck1 dat1 fre1 frm1 cw1 bas1 hld1 lrg1 lw1 lu1 R1 => ?_)⟩))))
      exact zq_spY hs (br_t rfl (zq_rgY hm hi (br_t rfl ⟨m + 1, h1 _ ⟨rfl, zq_in R1⟩⟩)))
    · exact zq_spX hs (br_f (by decide) (br.1 _ (br_t rfl (zq_spY hs (br_t rfl (br.2 _ _ _ _ _ (br_f (by decide) ⟨rfl, RI⟩)))))))
  · exact bs.1 _ (br_t rfl (bs.2 _ _ _ _ _ (br_f (by decide) ⟨rfl, RI⟩)))
theorem i_vc_protect {k : Nat} {u : SX} {v : SY} (I : i_Rel k u v) (hk : k + 5 ≤ 2561) (v1 : Int32) (v2 : Int32) (v3 : Int32) (v4 : Int32) : wpX_protect (fun r u' => wpY_protect (fun r' v' => r' = r ∧ i_Rel (k + 5) u' v') v v1 v2 v3 v4) u v1 v2 v3 v4 := by
  refine zq_el (P := fun u v => wpX_protect (fun r u' => wpY_protect (fun r' v' => r' = r ∧ i_Rel (k + 5) u' v') v v1 v2 v3 v4) u v1 v2 v3 v4) I ?_
  intro n uc ck dat fre frm cw bas hld lrg lw lu th op co R
  have RI := zq_in (k := k + 5) (ck := ck) (lu := lu) R
  unfold wpX_protect wpY_protect
  dsimp only
  rcases zq_sp v1 with ⟨s, hs, rfl⟩ | bs
  · rcases zq_rg v2 v3 with ⟨i, m, hm, hi, rfl, rfl⟩ | br
    · by_cases f0 : v4 = 0
      · obtain ⟨r, op', h1, h2⟩ := zq_prot (n := n) (fl := v4) (w := 0) hs hi (Or.inl ⟨f0, rfl⟩) m i 0 th op co (by omega)
        refine zq_spX hs (br_f (by decide) (zq_rgX hm hi (br_f (by decide) (nm_r zq_ix32 ⟨m + 1, h2 _ uc ck dat fre frm cw bas hld lrg lw lu R (fun uc1 ck1 dat1 fre1 frm1 cw1 bas1 hld1 lrg1 lw1 lu1 R1 => ?_)⟩))))
        exact zq_spY hs (br_t rfl (zq_rgY hm hi (br_t rfl (br_t f0 ⟨m + 1, h1 _ ⟨rfl, zq_in R1⟩⟩))))
      · obtain ⟨r, op', h1, h2⟩ := zq_prot (n := n) (fl := v4) (w := 1) hs hi (Or.inr ⟨f0, rfl⟩) m i 0 th op co (by omega)
        refine zq_spX hs (br_f (by decide) (zq_rgX hm hi (br_f (by decide) (nm_r zq_ix32 ⟨m + 1, h2 _ uc ck dat fre frm cw bas hld lrg lw lu R (fun uc1 ck1 dat1 fre1 frm1 cw1 bas1 hld1 lrg1 lw1 lu1 R1 => ?_)⟩))))
        exact zq_spY hs (br_t rfl (zq_rgY hm hi (br_t rfl (br_f f0 ⟨m + 1, h1 _ ⟨rfl, zq_in R1⟩⟩))))
    · exact zq_spX hs (br_f (by decide) (br.1 _ (br_t rfl (zq_spY hs (br_t rfl (br.2 _ _ _ _ _ (br_f (by decide) ⟨rfl, RI⟩)))))))
  · exact bs.1 _ (br_t rfl (bs.2 _ _ _ _ _ (br_f (by decide) ⟨rfl, RI⟩)))
theorem i_vc_write {k : Nat} {u : SX} {v : SY} (I : i_Rel k u v) (hk : k + 5 ≤ 2561) (v1 : Int32) (v2 : Int32) (v3 : Int32) : wpX_write (fun r u' => wpY_write (fun r' v' => r' = r ∧ i_Rel (k + 5) u' v') v v1 v2 v3) u v1 v2 v3 := by
  refine zq_el (P := fun u v => wpX_write (fun r u' => wpY_write (fun r' v' => r' = r ∧ i_Rel (k + 5) u' v') v v1 v2 v3) u v1 v2 v3) I ?_
  intro n uc ck dat fre frm cw bas hld lrg lw lu th op co R
  have RI := zq_in (k := k + 5) (ck := ck) (lu := lu) R
  unfold wpX_write wpY_write
  dsimp only
  rcases zq_sp v1 with ⟨s, hs, rfl⟩ | bs
  · rcases zq_pgc v2 with ⟨j, hj, rfl⟩ | bp
    · have hp : 32 * s + j < 64 := by omega
      have hi : vp_in (nI (32 * s + j)) 64 := vp_in_nI hp (by omega)
      have ec : (nI (32 * s + j)).toNatClampNeg = 32 * s + j := nI_clamp (by omega)
      refine zq_spX hs (br_f (by decide) (zq_pgX hj (br_f (by decide) (nm_r zq_ix32 (zq_has R hp (br_c (fun z => ?_) (fun z => zq_mayR R hp z (br_c (fun y => ?_) (fun y => zq_setC R hp z (fun ck1 dat1 lu1 R1 => ?_))))))))))
      · refine zq_spY hs (br_t rfl (zq_pgY hj (br_t rfl (nm_r zq_ix32 ⟨hi, ?_⟩))))
        rw [ec]
        exact br_t z ⟨rfl, RI⟩
      · refine zq_spY hs (br_t rfl (zq_pgY hj (br_t rfl (nm_r zq_ix32 ⟨hi, ?_⟩))))
        rw [ec]
        exact br_f z ⟨hi, br_t y ⟨rfl, RI⟩⟩
      · refine zq_spY hs (br_t rfl (zq_pgY hj (br_t rfl (nm_r zq_ix32 ⟨hi, ?_⟩))))
        rw [ec]
        exact br_f z ⟨hi, br_f y ⟨hi, nm_e ⟨rfl, zq_in R1⟩⟩⟩
    · exact zq_spX hs (br_f (by decide) (bp.1 _ (br_t rfl (zq_spY hs (br_t rfl (bp.2 _ _ _ _ _ (br_f (by decide) ⟨rfl, RI⟩)))))))
  · exact bs.1 _ (br_t rfl (bs.2 _ _ _ _ _ (br_f (by decide) ⟨rfl, RI⟩)))
theorem i_vc_touch {k : Nat} {u : SX} {v : SY} (I : i_Rel k u v) (hk : k + 5 ≤ 2561) (v1 : Int32) (v2 : Int32) (v3 : Int32) : wpX_touch (fun r u' => wpY_touch (fun r' v' => r' = r ∧ i_Rel (k + 5) u' v') v v1 v2 v3) u v1 v2 v3 := by
  refine zq_el (P := fun u v => wpX_touch (fun r u' => wpY_touch (fun r' v' => r' = r ∧ i_Rel (k + 5) u' v') v v1 v2 v3) u v1 v2 v3) I ?_
  intro n uc ck dat fre frm cw bas hld lrg lw lu th op co R
  have RI := zq_in (k := k + 5) (ck := ck) (lu := lu) R
  unfold wpX_touch wpY_touch
  dsimp only
  rcases zq_sp v1 with ⟨s, hs, rfl⟩ | bs
  · rcases zq_pgc v2 with ⟨j, hj, rfl⟩ | bp
    · have hp : 32 * s + j < 64 := by omega
      have hi : vp_in (nI (32 * s + j)) 64 := vp_in_nI hp (by omega)
      have ec : (nI (32 * s + j)).toNatClampNeg = 32 * s + j := nI_clamp (by omega)
      obtain ⟨eu, hcn, hn, t01, o01⟩ := zq_ucR R
      refine zq_spX hs (br_f (by decide) (zq_pgX hj (br_f (by decide) (nm_r zq_ix32 (zq_has R hp (br_c (fun z => br_c (fun e => ?_) (fun e => ?_)) (fun z => zq_mayR R hp z (br_c (fun y => ?_) (fun y => zq_setC R hp z (fun ck1 dat1 lu1 R1 => ?_))))))))))
      · refine zq_spY hs (br_t rfl (zq_pgY hj (br_t rfl (nm_r zq_ix32 ⟨hi, ?_⟩))))
        rw [ec]
        exact br_t z (zq_used (br_t (eu.symm.trans e) ⟨rfl, RI⟩))
      · have hc : zq_c th 64 < n := by
          have : zq_c th 64 ≠ n := fun y => e (eu.trans (congrArg nI y))
          omega
        refine zq_bring R hp z hc (Or.inr rfl) (fun uc1 ck1 dat1 fre1 frm1 cw1 bas1 hld1 lrg1 lw1 lu1 R1 => ?_)
        refine zq_spY hs (br_t rfl (zq_pgY hj (br_t rfl (nm_r zq_ix32 ⟨hi, ?_⟩))))
        rw [ec]
        exact br_t z (zq_used (br_f (fun y => e (eu.trans y)) (zq_make hp ⟨rfl, zq_in R1⟩)))
      · refine zq_spY hs (br_t rfl (zq_pgY hj (br_t rfl (nm_r zq_ix32 ⟨hi, ?_⟩))))
        rw [ec]
        exact br_f z ⟨hi, br_t y ⟨rfl, RI⟩⟩
      · refine zq_spY hs (br_t rfl (zq_pgY hj (br_t rfl (nm_r zq_ix32 ⟨hi, ?_⟩))))
        rw [ec]
        exact br_f z ⟨hi, br_f y ⟨hi, nm_e ⟨rfl, zq_in R1⟩⟩⟩
    · exact zq_spX hs (br_f (by decide) (bp.1 _ (br_t rfl (zq_spY hs (br_t rfl (bp.2 _ _ _ _ _ (br_f (by decide) ⟨rfl, RI⟩)))))))
  · exact bs.1 _ (br_t rfl (bs.2 _ _ _ _ _ (br_f (by decide) ⟨rfl, RI⟩)))
theorem i_vc_stamp {k : Nat} {u : SX} {v : SY} (I : i_Rel k u v) (hk : k + 5 ≤ 2561) (v1 : Int32) (v2 : Int32) (v3 : Int32) : wpX_stamp (fun r u' => wpY_stamp (fun r' v' => r' = r ∧ i_Rel (k + 5) u' v') v v1 v2 v3) u v1 v2 v3 := by
  refine zq_el (P := fun u v => wpX_stamp (fun r u' => wpY_stamp (fun r' v' => r' = r ∧ i_Rel (k + 5) u' v') v v1 v2 v3) u v1 v2 v3) I ?_
  intro n uc ck dat fre frm cw bas hld lrg lw lu th op co R
  have RI := zq_in (k := k + 5) (ck := ck) (lu := lu) R
  unfold wpX_stamp wpY_stamp
  dsimp only
  rcases zq_sp v1 with ⟨s, hs, rfl⟩ | bs
  · by_cases hneg : v2 < 0
    · have hY : ¬ 0 ≤ v2 := Int32.not_le.mpr hneg
      exact zq_spX hs (br_f (by decide) (br_t hneg (zq_spY hs (br_t rfl (br_f hY ⟨rfl, RI⟩)))))
    · have hY : 0 ≤ v2 := Int32.not_lt.mp hneg
      obtain ⟨a, ha, rfl⟩ := nI_of hneg
      have e1 : nI a >>> ((6 : Int32) &&& 31) = nI (a / 64) := pk_shrN ha _ 6 (by decide)
      have e2 : nI a &&& 63 = nI (a % 64) := pk_andN (by omega) 6 (by decide)
      have e3 : nI a / 64 = nI (a / 64) := pk_div (d := 64) ha (by omega) (by omega)
      have e4 : nI a - nI a / 64 * 64 = nI (a % 64) := pk_rem (d := 64) ha (by omega) (by omega)
      have n64 : ¬ (64 : Int32) = 0 := by decide
      rw [e1]
      rcases zq_rg (nI (a / 64)) (nI (a % 64)) with ⟨i, m, hm, hi, ei, em⟩ | br
      · obtain ⟨r, co', h1, h2⟩ := zq_stm (n := n) (a := nI a) (y := v3) hs hi (e2.trans em) m i 0 th op co (by omega)
        rw [ei]
        have hXr : ∀ post : Int32 → Prop, post 1 → wpX_isRange post (nI i) (nI a &&& 63) := by
          intro post h
          rw [e2, em]
          exact zq_rgX hm hi h
        refine zq_spX hs (br_f (by decide) (br_f hneg (hXr _ (br_f (by decide) (nm_r zq_ix32 ⟨m + 1, h2 _ uc ck dat fre frm cw bas hld lrg lw lu R (fun uc1 ck1 dat1 fre1 frm1 cw1 bas1 hld1 lrg1 lw1 lu1 R1 => ?_)⟩)))))
        exact zq_spY hs (br_t rfl (br_t hY ⟨n64, nm_r (e3.trans ei) ⟨n64, nm_r (e4.trans em) (zq_rgY hm hi (br_t rfl ⟨m + 1, h1 _ ⟨rfl, zq_in R1⟩⟩))⟩⟩))
      · have hXr : ∀ post : Int32 → Prop, post 0 → wpX_isRange post (nI (a / 64)) (nI a &&& 63) := by
          intro post h
          rw [e2]
          exact br.1 post h
        exact zq_spX hs (br_f (by decide) (br_f hneg (hXr _ (br_t rfl (zq_spY hs (br_t rfl (br_t hY ⟨n64, nm_r e3 ⟨n64, nm_r e4 (br.2 _ _ _ _ _ (br_f (by decide) ⟨rfl, RI⟩))⟩⟩)))))))
  · exact bs.1 _ (br_t rfl (bs.2 _ _ _ _ _ (br_f (by decide) ⟨rfl, RI⟩)))
end
section
/-! remap, duplicate, exchange -/
theorem i_vc_remap {k : Nat} {u : SX} {v : SY} (I : i_Rel k u v) (hk : k + 5 ≤ 2561) (v1 : Int32) (v2 : Int32) (v3 : Int32) : wpX_remap (fun r u' => wpY_remap (fun r' v' => r' = r ∧ i_Rel (k + 5) u' v') v v1 v2 v3) u v1 v2 v3 := by
  refine zq_el (P := fun u v => wpX_remap (fun r u' => wpY_remap (fun r' v' => r' = r ∧ i_Rel (k + 5) u' v') v v1 v2 v3) u v1 v2 v3) I ?_
  intro n uc ck dat fre frm cw bas hld lrg lw lu th op co R
  have RI := zq_in (k := k + 5) (ck := ck) (lu := lu) R
  unfold wpX_remap wpY_remap
  dsimp only
  rcases zq_sp v1 with ⟨s, hs, rfl⟩ | bs
  · rcases zq_pgc v2 with ⟨i, hi, rfl⟩ | bp
    · rcases zq_pgc v3 with ⟨j, hj, rfl⟩ | bq
      · rw [zq_ix32, zq_ix32, nI_clamp (show 32 * s + i < 2 ^ 31 by omega), nI_clamp (show 32 * s + j < 2 ^ 31 by omega)]
        have hp : 32 * s + i < 64 := by omega
        have hq : 32 * s + j < 64 := by omega
        have hip : vp_in (nI (32 * s + i)) 64 := vp_in_nI hp (by omega)
        have hiq : vp_in (nI (32 * s + j)) 64 := vp_in_nI hq (by omega)
        obtain ⟨eu, hcn, hn, t01, o01⟩ := zq_ucR R
        refine zq_spX hs (br_f (by decide) (zq_pgX hi (br_f (by decide) (zq_pgX hj (br_f (by decide) (nm_e (nm_e ?_)))))))
        refine zq_has R hp (br_c (fun z => ?_) (fun z => zq_has R hq (br_c (fun y => zq_carry R hp hq z y (fun uc1 ck1 dat1 fre1 frm1 cw1 bas1 hld1 lrg1 lw1 lu1 R1 => ?_)) (fun y => ?_))))
        · exact zq_spY hs (br_t rfl (zq_pgY hi (br_t rfl (zq_pgY hj (br_t rfl ⟨hip, br_t z ⟨rfl, RI⟩⟩)))))
        · refine zq_spY hs (br_t rfl (zq_pgY hi (br_t rfl (zq_pgY hj (br_t rfl ⟨hip, br_f z ⟨hiq, br_t y (zq_copy hp hq t01 o01 ⟨hip, nm_e ⟨rfl, zq_in ?_⟩⟩)⟩⟩)))))
          have ne : 32 * s + i ≠ 32 * s + j := fun e => z (by rw [e]; exact y)
          have e1 : th (32 * s + i) = 1 := zq_t1 t01 hp z
          have e2 : upd (upd th (32 * s + j) (th (32 * s + i))) (32 * s + i) (vp_nar .boolean 0) = upd (upd th (32 * s + i) 0) (32 * s + j) 1 := by
            rw [e1, zq_v0, zq_ucm ne]
          rw [e2]
          exact R1
        · exact zq_spY hs (br_t rfl (zq_pgY hi (br_t rfl (zq_pgY hj (br_t rfl ⟨hip, br_f z ⟨hiq, br_f y ⟨rfl, RI⟩⟩⟩)))))
      · exact zq_spX hs (br_f (by decide) (zq_pgX hi (br_f (by decide) (bq.1 _ (br_t rfl (zq_spY hs (br_t rfl (zq_pgY hi (br_t rfl (bq.2 _ _ _ _ _ (br_f (by decide) ⟨rfl, RI⟩)))))))))))
    · exact zq_spX hs (br_f (by decide) (bp.1 _ (br_t rfl (zq_spY hs (br_t rfl (bp.2 _ _ _ _ _ (br_f (by decide) ⟨rfl, RI⟩)))))))
  · exact bs.1 _ (br_t rfl (bs.2 _ _ _ _ _ (br_f (by decide) ⟨rfl, RI⟩)))
theorem i_vc_duplicate {k : Nat} {u : SX} {v : SY} (I : i_Rel k u v) (hk : k + 5 ≤ 2561) (v1 : Int32) (v2 : Int32) : wpX_duplicate (fun r u' => wpY_duplicate (fun r' v' => r' = r ∧ i_Rel (k + 5) u' v') v v1 v2) u v1 v2 := by
  refine zq_el (P := fun u v => wpX_duplicate (fun r u' => wpY_duplicate (fun r' v' => r' = r ∧ i_Rel (k + 5) u' v') v v1 v2) u v1 v2) I ?_
  intro n uc ck dat fre frm cw bas hld lrg lw lu th op co R
  have RI := zq_in (k := k + 5) (ck := ck) (lu := lu) R
  unfold wpX_duplicate wpY_duplicate
  dsimp only
  rcases zq_sp v1 with ⟨s, hs, rfl⟩ | bs
  · rcases zq_pgc v2 with ⟨j, hj, rfl⟩ | bp
    · have e1 : (1 : Int32) - nI s = nI (1 - s) := pk_sub (a := 1) (by omega)
      rw [e1, zq_ix32, zq_ix32, nI_clamp (show 32 * s + j < 2 ^ 31 by omega), nI_clamp (show 32 * (1 - s) + j < 2 ^ 31 by omega)]
      have hp : 32 * s + j < 64 := by omega
      have hq : 32 * (1 - s) + j < 64 := by omega
      have hip : vp_in (nI (32 * s + j)) 64 := vp_in_nI hp (by omega)
      have hiq : vp_in (nI (32 * (1 - s) + j)) 64 := vp_in_nI hq (by omega)
      obtain ⟨eu, hcn, hn, t01, o01⟩ := zq_ucR R
      refine zq_spX hs (br_f (by decide) (zq_pgX hj (br_f (by decide) (nm_e (nm_e (zq_has R hp (br_c (fun z => ?_) (fun z => zq_has R hq (br_c (fun y => br_c (fun e => ?_) (fun e => zq_mayR R hp z (zq_conR R hp z ?_))) (fun y => ?_))))))))))
      · exact zq_spY hs (br_t rfl (zq_pgY hj (br_t rfl ⟨hip, br_t z ⟨rfl, RI⟩⟩)))
      · exact zq_spY hs (br_t rfl (zq_pgY hj (br_t rfl ⟨hip, br_f z ⟨hiq, br_t y (zq_used (br_t (eu.symm.trans e) ⟨rfl, RI⟩))⟩⟩)))
      · have hc : zq_c th 64 < n := by
          have : zq_c th 64 ≠ n := fun y => e (eu.trans (congrArg nI y))
          omega
        refine zq_bring R hq y hc (o01 _ hp) (fun uc1 ck1 dat1 fre1 frm1 cw1 bas1 hld1 lrg1 lw1 lu1 R1 => ?_)
        refine zq_spY hs (br_t rfl (zq_pgY hj (br_t rfl ⟨hip, br_f z ⟨hiq, br_t y (zq_used (br_f (fun y => e (eu.trans y)) (zq_copy hp hq t01 o01 ⟨rfl, zq_in ?_⟩)))⟩⟩)))
        rw [zq_t1 t01 hp z]
        exact R1
      · exact zq_spY hs (br_t rfl (zq_pgY hj (br_t rfl ⟨hip, br_f z ⟨hiq, br_f y ⟨rfl, RI⟩⟩⟩)))
    · exact zq_spX hs (br_f (by decide) (bp.1 _ (br_t rfl (zq_spY hs (br_t rfl (bp.2 _ _ _ _ _ (br_f (by decide) ⟨rfl, RI⟩)))))))
  · exact bs.1 _ (br_t rfl (bs.2 _ _ _ _ _ (br_f (by decide) ⟨rfl, RI⟩)))
/-! exchange: the reference's side once -/
theorem zq_exY {post : Int32 → SY → Prop} {fr : Int32} {th op co : Nat → Int32} {j : Nat} (hj : j < 32) (t01 : zq_01 th) (o01 : zq_01 op)
    (h : post 0 (fr, upd (upd th j (th (32 + j))) (32 + j) (th j), upd (upd op j (op (32 + j))) (32 + j) (op j), upd (upd co j (co (32 + j))) (32 + j) (co j))) : wpY_exchange post (fr, th, op, co) (nI j) := by
  have hp : vp_in (nI j) 64 := vp_in_nI (by omega) (by omega)
  have hq : vp_in (nI (32 + j)) 64 := vp_in_nI (by omega) (by omega)
  have e1 : (32 : Int32) + nI j = nI (32 + j) := nI_add 32 j
  have ep : (nI j).toNatClampNeg = j := nI_clamp (by omega)
  have eq : (nI (32 + j)).toNatClampNeg = 32 + j := nI_clamp (by omega)
  unfold wpY_exchange
  dsimp only
  rw [e1, ep]
  refine zq_pgY hj (br_t rfl ⟨hp, nm_e ⟨hp, nm_e ⟨hp, nm_e (zq_copy (by omega) (by omega) t01 o01 ?_)⟩⟩⟩)
  dsimp only
  rw [eq, zq_vb (t01 j (by omega)), zq_vb (o01 j (by omega))]
  exact ⟨hq, nm_e ⟨hq, nm_e ⟨hq, nm_e h⟩⟩⟩
theorem zq_exO {op : Nat → Int32} {j : Nat} (o01 : zq_01 op) (hj : j < 32) : zq_01 (upd (upd op j (op (32 + j))) (32 + j) (op j)) := zq_01u (zq_01u o01 (o01 _ (by omega))) (o01 _ (by omega))
theorem i_vc_exchange {k : Nat} {u : SX} {v : SY} (I : i_Rel k u v) (hk : k + 5 ≤ 2561) (v1 : Int32) : wpX_exchange (fun r u' => wpY_exchange (fun r' v' => r' = r ∧ i_Rel (k + 5) u' v') v v1) u v1 := by
  refine zq_el (P := fun u v => wpX_exchange (fun r u' => wpY_exchange (fun r' v' => r' = r ∧ i_Rel (k + 5) u' v') v v1) u v1) I ?_
  intro n uc ck dat fre frm cw bas hld lrg lw lu th op co R
  have RI := zq_in (k := k + 5) (ck := ck) (lu := lu) R
  unfold wpX_exchange
  dsimp only
  rcases zq_pgc v1 with ⟨j, hj, rfl⟩ | bp
  · obtain ⟨eu, hcn, hn, t01, o01⟩ := zq_ucR R
    have e1 : (32 : Int32) + nI j = nI (32 + j) := nI_add 32 j
    have hp : j < 64 := by omega
    have hq : 32 + j < 64 := by omega
    have ne : j ≠ 32 + j := by omega
    have o01' := zq_exO o01 hj
    have h92 : ¬ (th j ≠ 0 ∧ th (32 + j) ≠ 0) → ∀ post : Int32 → SX → Prop, (∀ (uc ck : Int32) (dat fre frm cw bas hld lrg lw lu : Nat → Int32), zq_R n uc dat fre frm cw bas hld lrg lw (upd (upd th j (th (32 + j))) (32 + j) (th j)) (upd (upd op j (op (32 + j))) (32 + j) (op j)) (upd (upd co j (co (32 + j))) (32 + j) (co j)) → post 0 (nI n, uc, ck, dat, fre, frm, cw, bas, hld, lrg, lw, lu)) → wX_exchange_92 post (nI j) (nI (32 + j)) (nI n) uc ck dat fre frm cw bas hld lrg lw lu := by
      intro hnb post h
      unfold wX_exchange_92
      refine zq_has R hp (br_c (fun z => zq_has R hq (br_c (fun y => ?_) (fun y => ?_))) (fun z => ?_))
      · refine h _ _ _ _ _ _ _ _ _ _ _ ?_
        have et : upd (upd th j (th (32 + j))) (32 + j) (th j) = th := by
          rw [z, y, zq_uid z, zq_uid y]
        rw [et]
        refine zq_Rext R o01' (fun p hp' tp => ?_)
        have n1 : p ≠ j := fun e => tp (by rw [e]; exact z)
        have n2 : p ≠ 32 + j := fun e => tp (by rw [e]; exact y)
        rw [pk_un n2, pk_un n1, pk_un n2, pk_un n1]
        exact ⟨rfl, rfl⟩
      · refine zq_carry R hq hp y z (fun uc1 ck1 dat1 fre1 frm1 cw1 bas1 hld1 lrg1 lw1 lu1 R1 => h _ _ _ _ _ _ _ _ _ _ _ ?_)
        have et : upd (upd th j (th (32 + j))) (32 + j) (th j) = upd (upd th (32 + j) 0) j 1 := by
          rw [z, zq_t1 t01 hq y, zq_ucm ne]
        rw [et]
        refine zq_Rext R1 o01' (fun p hp' tp => ?_)
        have n2 : p ≠ 32 + j := fun e => tp (by rw [e, pk_un (fun w => ne w.symm), pk_us])
        rw [pk_un n2, pk_un n2]
        exact ⟨rfl, rfl⟩
      · have y : th (32 + j) = 0 := by
          by_cases e : th (32 + j) = 0
          · exact e
          · exact absurd ⟨z, e⟩ hnb
        refine zq_carry R hp hq z y (fun uc1 ck1 dat1 fre1 frm1 cw1 bas1 hld1 lrg1 lw1 lu1 R1 => h _ _ _ _ _ _ _ _ _ _ _ ?_)
        have et : upd (upd th j (th (32 + j))) (32 + j) (th j) = upd (upd th j 0) (32 + j) 1 := by
          rw [y, zq_t1 t01 hp z]
        rw [et]
        refine zq_Rext R1 o01' (fun p hp' tp => ?_)
        have n1 : p ≠ j := fun e => tp (by rw [e, pk_un ne, pk_us])
        by_cases n2 : p = 32 + j
        · rw [n2, pk_us, pk_us, pk_us, pk_us]
          exact ⟨rfl, rfl⟩
        · exact ⟨by rw [pk_un n2, pk_un n1, pk_un n2], by rw [pk_un n2, pk_un n1, pk_un n2]⟩
    refine zq_pgX hj (br_f (by decide) (nm_r e1 (zq_has R hp (br_c (fun z => ?_) (fun z => zq_has R hq (br_c (fun y => ?_) (fun y => ?_)))))))
    · exact h92 (fun w => w.1 z) _ (fun uc1 ck1 dat1 fre1 frm1 cw1 bas1 hld1 lrg1 lw1 lu1 R1 => zq_exY hj t01 o01 ⟨rfl, zq_in R1⟩)
    · exact h92 (fun w => w.2 y) _ (fun uc1 ck1 dat1 fre1 frm1 cw1 bas1 hld1 lrg1 lw1 lu1 R1 => zq_exY hj t01 o01 ⟨rfl, zq_in R1⟩)
    · refine zq_conR R hp z (zq_mayR R hp z (zq_mayR R hq y ?_))
      obtain ⟨h8, h0, hn', g, B, F, U, A, A6, X⟩ := id R
      have hF := (A.2.2.1 j hp z).1
      refine zq_tr A X hp z (zq_conR R hq y ⟨vp_in_nI (by omega) (by omega), nm_r (e' := upd dat (F j) (co (32 + j))) (by rw [nI_clamp (by omega)]) ?_⟩)
      have R1 : zq_R n uc (upd dat (F j) (co (32 + j))) fre frm cw bas hld lrg lw th op (upd co j (co (32 + j))) := ⟨h8, h0, hn', g, B, F, U, A, A6, zq_setc A X hp z⟩
      refine zq_setC R1 hq y (fun ck2 dat2 lu2 R2 => zq_setW R2 hp z (o01 _ hq) (fun frm3 cw3 lrg3 lw3 R3 => zq_setW R3 hq y (o01 _ hp) (fun frm4 cw4 lrg4 lw4 R4 => ?_)))
      have et : upd (upd th j (th (32 + j))) (32 + j) (th j) = th := by
        rw [zq_t1 t01 hp z, zq_t1 t01 hq y, zq_uid (zq_t1 t01 hp z), zq_uid (zq_t1 t01 hq y)]
      refine zq_exY hj t01 o01 ⟨rfl, zq_in ?_⟩
      rw [et]
      exact R4
  · unfold wpY_exchange
    exact bp.1 _ (br_t rfl (bp.2 _ _ _ _ _ (br_f (by decide) ⟨rfl, RI⟩)))
end
section
/-! the constructors -/
def zq_f0 (n : Nat) : Nat → Int32 := fun q => if 144 ≤ q ∧ q < 144 + n ∧ (q - 144) % 8 = 0 then 1 else 0
theorem zq_f0y {n q : Nat} (h : 144 ≤ q ∧ q < 144 + n ∧ (q - 144) % 8 = 0) : zq_f0 n q = 1 := if_pos h
theorem zq_f0n {n q : Nat} (h : ¬ (144 ≤ q ∧ q < 144 + n ∧ (q - 144) % 8 = 0)) : zq_f0 n q = 0 := if_neg h
theorem zq_f0s {i : Nat} : upd (zq_f0 (8 * i)) (144 + 8 * i) 1 = zq_f0 (8 * (i + 1)) := by
  funext q
  by_cases e : q = 144 + 8 * i
  · rw [e, pk_us, zq_f0y (by omega)]
  · rw [pk_un e]
    by_cases c : 144 ≤ q ∧ q < 144 + 8 * i ∧ (q - 144) % 8 = 0
    · rw [zq_f0y c, zq_f0y (by omega)]
    · rw [zq_f0n c, zq_f0n (by omega)]
theorem zq_R0 {n : Nat} {frm bas : Nat → Int32} (h8 : n % 8 = 0) (h0 : 8 ≤ n) (hn : n ≤ 48) (hb : ∀ b, b < 16 → bas b = -1) :
    zq_R n 0 (fun _ => 0) (zq_f0 n) frm (fun _ => 0) bas (fun _ => 0) (fun _ => 0) (fun _ => 0) (fun _ => 0) (fun _ => 0) (fun _ => 0) := by
  refine ⟨h8, h0, hn, fun f => 144 + (f - f % 8), fun _ => 99, fun _ => 0, ⟨fun o a ho ha hf => ?_, fun f hf hg => ?_⟩, ⟨fun b _ => Or.inl rfl, fun f b hf hb e => ?_, fun p _ tp => absurd rfl tp, fun f p hf _ e => ?_, fun f hf => ?_⟩, fun b _ _ => rfl, fun p _ => Or.inl rfl, fun p _ => Or.inl rfl, by decide +kernel, fun b hb' => (hb b hb').trans zq_eBn.symm, fun b _ => by show (0 : Int32) = zq_m 0 0 0 0; decide, fun p _ tp => absurd rfl tp, fun b _ hl => absurd rfl hl, fun p _ tp => absurd rfl tp⟩
  · by_cases c : 144 ≤ 48 * o + a ∧ 48 * o + a < 144 + n ∧ (48 * o + a - 144) % 8 = 0
    · have : o = 3 := by omega
      subst this
      refine ⟨by omega, by omega, fun f f1 f2 => ?_⟩
      dsimp only
      omega
    · exact absurd (zq_f0n c) hf
  · dsimp only at hg ⊢
    have e1 : (144 + (f - f % 8)) % 48 = f - f % 8 := by omega
    have e2 : (144 + (f - f % 8)) / 48 = 3 := by omega
    rw [e1, e2, zq_f0y (by omega)]
    exact ⟨by decide, by omega, by omega⟩
  · dsimp only at e
    omega
  · dsimp only at e
    omega
  · dsimp only
    omega
section
variable {post : SX → Prop} {n : Nat} {uc ck : Int32} {dat frm cw hld lrg lw lu : Nat → Int32}
theorem zq_i159 {fre : Nat → Int32} (h : ∀ bas, (∀ b, b < 16 → bas b = -1) → post (nI n, uc, ck, dat, fre, frm, cw, bas, hld, lrg, lw, lu)) :
    ∀ (d i : Nat) (bas : Nat → Int32), i + d = 16 → (∀ b, b < i → bas b = -1) → wX_init_159 post (nI n) uc ck (d + 1) (nI i) dat fre frm cw bas hld lrg lw lu := by
  intro d
  induction d with
  | zero =>
    intro i bas hi h1
    have : i = 16 := by omega
    subst this
    exact br_t (show (16 : Int32) ≤ nI 16 by decide) (h bas h1)
  | succ d ih =>
    intro i bas hi h1
    refine br_f (nI_ge (b := 16) (by omega) (by omega)) ⟨vp_in_nI (by omega) (by omega), nm_r (e' := upd bas i (-1)) (by rw [nI_clamp (by omega)]) (nm_r (nI_1 i) (ih (i + 1) _ (by omega) (fun b hb => ?_)))⟩
    by_cases e : b = i
    · rw [e, pk_us]
    · rw [pk_un e]; exact h1 b (by omega)
theorem zq_i138 {fre bas : Nat → Int32} (h : ∀ frm', ∃ n159 : Nat, wX_init_159 post (nI n) uc ck n159 0 dat fre frm' cw bas hld lrg lw lu) :
    ∀ (d i : Nat) (frm' : Nat → Int32), i + d = 64 → wX_init_138 post (nI n) uc ck (d + 1) (nI i) dat fre frm' cw bas hld lrg lw lu := by
  intro d
  induction d with
  | zero =>
    intro i frm' hi
    have : i = 64 := by omega
    subst this
    exact br_t (show (64 : Int32) ≤ nI 64 by decide) (h frm')
  | succ d ih =>
    intro i frm' hi
    exact br_f (nI_ge (b := 64) (by omega) (by omega)) ⟨vp_in_nI (by omega) (by omega), nm_e (nm_r (nI_1 i) (ih (i + 1) _ (by omega)))⟩
theorem zq_i111 {c : Nat} {bas : Nat → Int32} (hc : n = 8 * c) (hn : n ≤ 48) (h : ∃ n138 : Nat, wX_init_138 post (nI n) uc ck n138 0 dat (zq_f0 n) frm cw bas hld lrg lw lu) :
    ∀ (d i : Nat), i + d = c → wX_init_111 post (nI n) uc ck (d + 1) (nI (8 * i)) dat (zq_f0 (8 * i)) frm cw bas hld lrg lw lu := by
  intro d
  induction d with
  | zero =>
    intro i hi
    have : n = 8 * i := by omega
    rw [← this]
    exact br_t (nI_le (Nat.le_refl n) (by omega)) h
  | succ d ih =>
    intro i hi
    have e1 : (144 : Int32) + nI (8 * i) = nI (144 + 8 * i) := nI_add 144 (8 * i)
    refine br_f (nI_ge (by omega) (by omega)) ⟨by rw [e1]; exact vp_in_nI (by omega) (by omega), nm_r (e' := zq_f0 (8 * (i + 1))) (by rw [e1, nI_clamp (by omega), zq_v1, zq_f0s]) (nm_r (e' := nI (8 * (i + 1))) (nI_add (8 * i) 8) (ih (i + 1) (by omega)))⟩
end
theorem zq_i99 {post : SX → Prop} {c : Nat} (hc : 8 ≤ c) (hc2 : c ≤ 48) (h : ∀ (n : Nat) (ck : Int32) (frm bas : Nat → Int32), n = c - c % 8 → (∀ b, b < 16 → bas b = -1) → post (nI n, 0, ck, fun _ => 0, zq_f0 n, frm, fun _ => 0, bas, fun _ => 0, fun _ => 0, fun _ => 0, fun _ => 0)) :
    wX_init_99 post (nI c) 0 0 0 (fun _ => 0) (fun _ => 0) (fun _ => 0) (fun _ => 0) (fun _ => 0) (fun _ => 0) (fun _ => 0) (fun _ => 0) (fun _ => 0) := by
  have e : nI c - (nI c - nI c / 8 * 8) = nI (c - c % 8) := by
    rw [show nI c - nI c / 8 * 8 = nI (c % 8) from pk_rem (d := 8) (by omega) (by omega) (by omega), pk_sub (by omega)]
  have ef : (fun _ => 0 : Nat → Int32) = zq_f0 (8 * 0) := by
    funext q
    rw [zq_f0n (by omega)]
  refine ⟨by decide, nm_r e ⟨c / 8 + 1, ?_⟩⟩
  have hl := zq_i111 (post := post) (n := c - c % 8) (uc := 0) (ck := 0) (dat := fun _ => 0) (frm := fun _ => 0) (cw := fun _ => 0) (bas := fun _ => 0) (hld := fun _ => 0) (lrg := fun _ => 0) (lw := fun _ => 0) (lu := fun _ => 0) (c := c / 8) (by omega) (by omega) ⟨65, zq_i138 (fun frm' => ⟨17, zq_i159 (fun bas hb => h _ _ _ _ rfl hb) 16 0 _ (by omega) (fun b hb => absurd hb (Nat.not_lt_zero b))⟩) 64 0 _ (by omega)⟩ (c / 8) 0 (by omega)
  rw [← ef] at hl
  exact hl
theorem i_vc0 (k0 : Int32) : wpX_init (fun u => wpY_init (fun v => i_Rel 1 u v) k0) k0 := by
  have fin : ∀ c, 8 ≤ c → c ≤ 48 → ∀ (n : Nat) (ck : Int32) (frm bas : Nat → Int32), n = c - c % 8 → (∀ b, b < 16 → bas b = -1) → wY_init_51 (fun v => i_Rel 1 (nI n, 0, ck, fun _ => 0, zq_f0 n, frm, fun _ => 0, bas, fun _ => 0, fun _ => 0, fun _ => 0, fun _ => 0) v) (nI c) 0 (fun _ => 0) (fun _ => 0) (fun _ => 0) := by
    intro c h1 h2 n ck frm bas en hb
    have e : nI c - (nI c - nI c / 8 * 8) = nI n := by
      rw [show nI c - nI c / 8 * 8 = nI (c % 8) from pk_rem (d := 8) (by omega) (by omega) (by omega), pk_sub (by omega), en]
    exact ⟨by decide, nm_r e (zq_in (zq_R0 (by omega) (by omega) (by omega) hb))⟩
  by_cases h8 : 8 ≤ k0
  · have hneg : ¬ k0 < 0 := fun z => absurd (Int32.lt_of_le_of_lt h8 z) (by decide)
    obtain ⟨c, hc, rfl⟩ := nI_of hneg
    have hc8 : 8 ≤ c := (nI_leI (a := 8) (by omega) hc).mp h8
    by_cases h48 : nI c ≤ 48
    · have hc48 : c ≤ 48 := (nI_leI (b := 48) hc (by omega)).mp h48
      exact br_t h8 (br_t h48 (zq_i99 hc8 hc48 (fun n ck frm bas en hb => br_t h8 (br_t h48 (fin c hc8 hc48 n ck frm bas en hb)))))
    · exact br_t h8 (br_f h48 (zq_i99 (c := 48) (by omega) (by omega) (fun n ck frm bas en hb => br_t h8 (br_f h48 (fin 48 (by omega) (by omega) n ck frm bas en hb)))))
  · exact br_f h8 (br_t (show (8 : Int32) ≤ 48 by decide) (zq_i99 (c := 8) (by omega) (by omega) (fun n ck frm bas en hb => br_f h8 (fin 8 (by omega) (by omega) n ck frm bas en hb))))
end
