section
/-! rows taken from kit/rows (starting text) -/
theorem pk_us {f : Nat → Int32} {k : Nat} {x : Int32} : upd f k x k = x := if_pos rfl
theorem pk_un {f : Nat → Int32} {k j : Nat} {x : Int32} (h : j ≠ k) : upd f k x j = f j := if_neg h
theorem pk_sub {a b : Nat} (h : b ≤ a) : nI a - nI b = nI (a - b) := by
  obtain ⟨c, rfl⟩ : ∃ c, a = c + b := ⟨a - b, by omega⟩
  rw [← nI_add, Int32.add_sub_cancel, Nat.add_sub_cancel]
theorem pk_mul (a b : Nat) : nI a * nI b = nI (a * b) := (Int32.ofNat_mul a b).symm
theorem pk_sub_toInt {a b : Nat} (ha : a < 2 ^ 30) (hb : b < 2 ^ 30) : (nI a - nI b).toInt = (a : Int) - b := by
  rw [Int32.toInt_sub, nI_toInt (by omega), nI_toInt (by omega)]
  exact Int.bmod_eq_of_le (by omega) (by omega)
theorem pk_sneg {a b : Nat} (hb : b < 2 ^ 30) (h : a < b) : nI a - nI b < 0 := by
  rw [Int32.lt_iff_toInt_lt, pk_sub_toInt (by omega) hb, show (0 : Int32).toInt = 0 from by decide]
  omega
theorem pk_le {x y : Int32} {A B : Prop} (a b : Nat) (f : a ≤ b → A) (g : b < a → B) (hx : x = nI a := by rfl) (hy : y = nI b := by rfl) (ha : a < 2 ^ 31 := by omega) (hb : b < 2 ^ 31 := by omega) : (x ≤ y → A) ∧ (¬ x ≤ y → B) := by
  subst hx hy
  rw [nI_leI ha hb]
  exact ⟨f, fun z => g (by omega)⟩
theorem pk_lt {x y : Int32} {A B : Prop} (a b : Nat) (f : a < b → A) (g : b ≤ a → B) (hx : x = nI a := by rfl) (hy : y = nI b := by rfl) (ha : a < 2 ^ 31 := by omega) (hb : b < 2 ^ 31 := by omega) : (x < y → A) ∧ (¬ x < y → B) := by
  subst hx hy
  rw [nI_ltI ha hb]
  exact ⟨f, fun z => g (by omega)⟩
theorem pk_eq {x y : Int32} {A B : Prop} (a b : Nat) (f : a = b → A) (g : a ≠ b → B) (hx : x = nI a := by rfl) (hy : y = nI b := by rfl) (ha : a < 2 ^ 31 := by omega) (hb : b < 2 ^ 31 := by omega) : (x = y → A) ∧ (¬ x = y → B) := by
  subst hx hy
  rw [nI_eq ha hb]
  exact ⟨f, g⟩
theorem pk_tn {n : Nat} (h : n < 2 ^ 32) : (nI n).toBitVec.toNat = n := Nat.mod_eq_of_lt h
theorem pk_and (x : Int32) {m : Int32} (k : Nat) (hm : m.toBitVec.toNat = 2 ^ k - 1) : x &&& m = nI (x.toBitVec.toNat % 2 ^ k) := by
  apply Int32.toBitVec_inj.mp
  apply BitVec.eq_of_toNat_eq
  rw [Int32.toBitVec_and, BitVec.toNat_and, hm, Nat.and_two_pow_sub_one_eq_mod]
  show _ = (BitVec.ofNat 32 _).toNat
  rw [BitVec.toNat_ofNat]
  exact (Nat.mod_eq_of_lt (Nat.lt_of_le_of_lt (Nat.mod_le _ _) x.toBitVec.isLt)).symm
theorem pk_andN {n : Nat} (h : n < 2 ^ 32) {m : Int32} (k : Nat) (hm : m.toBitVec.toNat = 2 ^ k - 1) : nI n &&& m = nI (n % 2 ^ k) := by
  rw [pk_and _ k hm, pk_tn h]
theorem pk_shl (a s : Int32) (k : Nat) (hs : (s.toBitVec.smod 32).toNat = k) : (a <<< s).toBitVec.toNat = a.toBitVec.toNat * 2 ^ k % 2 ^ 32 := by
  show (a.toBitVec <<< (s.toBitVec.smod 32).toNat).toNat = _
  rw [hs, BitVec.toNat_shiftLeft, Nat.shiftLeft_eq]
theorem pk_shlN {n : Nat} (s : Int32) (k : Nat) (hs : (s.toBitVec.smod 32).toNat = k) (h : n * 2 ^ k < 2 ^ 32) : nI n <<< s = nI (n * 2 ^ k) := by
  apply Int32.toBitVec_inj.mp
  apply BitVec.eq_of_toNat_eq
  have hn : n < 2 ^ 32 := Nat.lt_of_le_of_lt (Nat.le_mul_of_pos_right n (Nat.two_pow_pos k)) h
  rw [pk_shl _ _ k hs, pk_tn hn, pk_tn h, Nat.mod_eq_of_lt h]
theorem pk_shr (a s : Int32) (k : Nat) (hs : (s.toBitVec.smod 32).toNat = k) : (a >>> s).toInt = a.toInt >>> k := by
  show (a.toBitVec.sshiftRight (s.toBitVec.smod 32).toNat).toInt = _
  rw [hs, BitVec.toInt_sshiftRight]
  rfl
theorem pk_shrN {n : Nat} (h : n < 2 ^ 31) (s : Int32) (k : Nat) (hs : (s.toBitVec.smod 32).toNat = k) : nI n >>> s = nI (n / 2 ^ k) := by
  apply Int32.toInt_inj.mp
  have h2 : n / 2 ^ k ≤ n := Nat.div_le_self _ _
  rw [pk_shr _ _ k hs, nI_toInt h, nI_toInt (by omega), Int.shiftRight_eq_div_pow]
  rfl
theorem s_l : ∀ n, n < 32 → ((nI n &&& 31).toBitVec.smod 32).toNat = n := by decide +kernel
end
section
/-! the pure picture: message bits, code bits, the message's number, distances, the best message -/
/-- bit t - j of the message number m (0 where j > t) -/
def cv_b (m t j : Nat) : Nat := if j ≤ t then m / 2 ^ (t - j) % 2 else 0
theorem cv_b_lt (m t j : Nat) : cv_b m t j < 2 := by
  unfold cv_b
  split
  · exact Nat.mod_lt _ (by decide)
  · decide
theorem cv_b_hi {m t j l : Nat} (hm : m < 2 ^ l) (h : l ≤ t - j) : cv_b m t j = 0 := by
  unfold cv_b
  split
  · rw [Nat.div_eq_of_lt (Nat.lt_of_lt_of_le hm (Nat.pow_le_pow_right (by decide) h))]
  · rfl
/-- code bit p of the message m -/
def cv_c (m p : Nat) : Nat :=
  if p % 2 = 0 then (cv_b m (p / 2) 0 + cv_b m (p / 2) 1 + cv_b m (p / 2) 2 + cv_b m (p / 2) 3 + cv_b m (p / 2) 6) % 2
  else (cv_b m (p / 2) 0 + cv_b m (p / 2) 2 + cv_b m (p / 2) 3 + cv_b m (p / 2) 5 + cv_b m (p / 2) 6) % 2
/-- the taps -/
def cv_t (w j : Nat) : Nat :=
  if w = 0 then (if j = 0 ∨ j = 1 ∨ j = 2 ∨ j = 3 ∨ j = 6 then 1 else 0)
  else (if j = 0 ∨ j = 2 ∨ j = 3 ∨ j = 5 ∨ j = 6 then 1 else 0)
theorem cv_t_lt (w j : Nat) : cv_t w j < 2 := by
  unfold cv_t
  split <;> split <;> decide
/-- the reference's bit ahead of its round j -/
def cv_f (w m t : Nat) : Nat → Nat
  | 0 => 0
  | j + 1 => if cv_t w j = 1 ∧ cv_b m t j = 1 then 1 - cv_f w m t j else cv_f w m t j
def cv_s (w m t : Nat) : Nat → Nat
  | 0 => 0
  | j + 1 => cv_s w m t j + cv_t w j * cv_b m t j
theorem cv_f_s (w m t j : Nat) : cv_f w m t j = cv_s w m t j % 2 := by
  induction j with
  | zero => rfl
  | succ j ih =>
    show (if cv_t w j = 1 ∧ cv_b m t j = 1 then 1 - cv_f w m t j else cv_f w m t j) = (cv_s w m t j + cv_t w j * cv_b m t j) % 2
    rw [ih]
    have ht := cv_t_lt w j
    have hb := cv_b_lt m t j
    generalize cv_t w j = x at *
    generalize cv_b m t j = y at *
    generalize cv_s w m t j = z at *
    rcases (by omega : x = 0 ∨ x = 1) with rfl | rfl
    · rw [if_neg (by omega)]; omega
    · rcases (by omega : y = 0 ∨ y = 1) with rfl | rfl
      · rw [if_neg (by omega)]; omega
      · rw [if_pos ⟨rfl, rfl⟩]; omega
theorem cv_f_le (w m t j : Nat) : cv_f w m t j ≤ 1 := by
  rw [cv_f_s]
  omega
theorem cv_f_keep {w m t j : Nat} (h : ¬ (cv_t w j = 1 ∧ cv_b m t j = 1)) : cv_f w m t (j + 1) = cv_f w m t j := if_neg h
theorem cv_f_flip {w m t j : Nat} (h : cv_t w j = 1 ∧ cv_b m t j = 1) : cv_f w m t (j + 1) = 1 - cv_f w m t j := if_pos h
theorem cv_f_c {w : Nat} (hw : w < 2) (m t : Nat) : cv_f w m t 7 = cv_c m (2 * t + w) := by
  rw [cv_f_s]
  unfold cv_c
  rw [show (2 * t + w) / 2 = t by omega]
  have e : cv_s w m t 7 = 0 + cv_t w 0 * cv_b m t 0 + cv_t w 1 * cv_b m t 1 + cv_t w 2 * cv_b m t 2 + cv_t w 3 * cv_b m t 3 + cv_t w 4 * cv_b m t 4 + cv_t w 5 * cv_b m t 5 + cv_t w 6 * cv_b m t 6 := rfl
  rw [e]
  rcases (by omega : w = 0 ∨ w = 1) with rfl | rfl
  · rw [if_pos (by omega), show cv_t 0 0 = 1 by decide, show cv_t 0 1 = 1 by decide, show cv_t 0 2 = 1 by decide, show cv_t 0 3 = 1 by decide, show cv_t 0 4 = 0 by decide, show cv_t 0 5 = 0 by decide, show cv_t 0 6 = 1 by decide]
    omega
  · rw [if_neg (by omega), show cv_t 1 0 = 1 by decide, show cv_t 1 1 = 0 by decide, show cv_t 1 2 = 1 by decide, show cv_t 1 3 = 1 by decide, show cv_t 1 4 = 0 by decide, show cv_t 1 5 = 1 by decide, show cv_t 1 6 = 1 by decide]
    omega
/-- the number of the first k message bits -/
def cv_v (a : Nat → Int32) : Nat → Nat
  | 0 => 0
  | k + 1 => cv_v a k + (if a k = 0 then 0 else 1) * 2 ^ k
theorem cv_v_lt (a : Nat → Int32) (k : Nat) : cv_v a k < 2 ^ k := by
  induction k with
  | zero => exact Nat.one_pos
  | succ k ih =>
    show cv_v a k + (if a k = 0 then 0 else 1) * 2 ^ k < 2 ^ (k + 1)
    rw [Nat.pow_succ]
    split <;> omega
theorem cv_v_eq {a b : Nat → Int32} {l : Nat} (h : ∀ i, i < l → a i = b i) : cv_v a l = cv_v b l := by
  induction l with
  | zero => rfl
  | succ l ih =>
    show cv_v a l + (if a l = 0 then 0 else 1) * 2 ^ l = cv_v b l + (if b l = 0 then 0 else 1) * 2 ^ l
    rw [ih (fun i hi => h i (by omega)), h l (by omega)]
/-- how many of the first p code bits of m differ from r -/
def cv_d (m : Nat) (r : Nat → Int32) : Nat → Nat
  | 0 => 0
  | p + 1 => cv_d m r p + (if nI (cv_c m p) = r p then 0 else 1)
theorem cv_d_le (m : Nat) (r : Nat → Int32) (p : Nat) : cv_d m r p ≤ p := by
  induction p with
  | zero => exact Nat.le_refl 0
  | succ p ih =>
    show cv_d m r p + (if nI (cv_c m p) = r p then 0 else 1) ≤ p + 1
    split <;> omega
theorem cv_d_t {m p : Nat} {r : Nat → Int32} (h : nI (cv_c m p) = r p) : cv_d m r (p + 1) = cv_d m r p := by
  show cv_d m r p + (if nI (cv_c m p) = r p then 0 else 1) = _
  rw [if_pos h, Nat.add_zero]
theorem cv_d_f {m p : Nat} {r : Nat → Int32} (h : ¬ nI (cv_c m p) = r p) : cv_d m r (p + 1) = cv_d m r p + 1 := by
  show cv_d m r p + (if nI (cv_c m p) = r p then 0 else 1) = _
  rw [if_neg h]
theorem cv_d_eq {m : Nat} {r s : Nat → Int32} {p : Nat} (h : ∀ i, i < p → r i = s i) : cv_d m r p = cv_d m s p := by
  induction p with
  | zero => rfl
  | succ p ih =>
    show cv_d m r p + (if nI (cv_c m p) = r p then 0 else 1) = cv_d m s p + (if nI (cv_c m p) = s p then 0 else 1)
    rw [ih (fun i hi => h i (by omega)), h p (by omega)]
/-- best distance and best message among the first m messages, z the best at first -/
def cv_o (r : Nat → Int32) (n z : Nat) : Nat → Nat × Nat
  | 0 => (z, 0)
  | m + 1 => if (cv_o r n z m).1 ≤ cv_d m r n then cv_o r n z m else (cv_d m r n, m)
theorem cv_o_k {r : Nat → Int32} {n z m : Nat} (h : (cv_o r n z m).1 ≤ cv_d m r n) : cv_o r n z (m + 1) = cv_o r n z m := if_pos h
theorem cv_o_n {r : Nat → Int32} {n z m : Nat} (h : cv_d m r n < (cv_o r n z m).1) : cv_o r n z (m + 1) = (cv_d m r n, m) := if_neg (by omega)
theorem cv_o_le (r : Nat → Int32) (n z m : Nat) : (cv_o r n z m).1 ≤ z := by
  induction m with
  | zero => exact Nat.le_refl z
  | succ m ih =>
    rcases Nat.lt_or_ge (cv_d m r n) (cv_o r n z m).1 with h | h
    · rw [cv_o_n h]; exact Nat.le_trans (Nat.le_of_lt h) ih
    · rw [cv_o_k h]; exact ih
theorem cv_o_eq {r s : Nat → Int32} {n z y : Nat} (h : ∀ i, i < n → r i = s i) (hz : n < z) (hy : n < y) : ∀ m, cv_o r n z (m + 1) = cv_o s n y (m + 1) := by
  intro m
  induction m with
  | zero =>
    have h1 := cv_d_le 0 r n
    have h2 := cv_d_le 0 s n
    rw [cv_o_n (show cv_d 0 r n < (cv_o r n z 0).1 from Nat.lt_of_le_of_lt h1 hz), cv_o_n (show cv_d 0 s n < (cv_o s n y 0).1 from Nat.lt_of_le_of_lt h2 hy), cv_d_eq h]
  | succ m ih =>
    show (if (cv_o r n z (m + 1)).1 ≤ cv_d (m + 1) r n then cv_o r n z (m + 1) else (cv_d (m + 1) r n, m + 1)) = (if (cv_o s n y (m + 1)).1 ≤ cv_d (m + 1) s n then cv_o s n y (m + 1) else (cv_d (m + 1) s n, m + 1))
    rw [ih, cv_d_eq h]
/-! ints -/
theorem cv_nor (a b : Nat) : nI a ||| nI b = nI (a ||| b) := by
  apply Int32.toBitVec_inj.1
  show BitVec.ofNat 32 a ||| BitVec.ofNat 32 b = BitVec.ofNat 32 (a ||| b)
  apply BitVec.eq_of_getLsbD_eq
  intro i hi
  simp [hi]
theorem cv_or {v k : Nat} (c : Nat) (hv : v < 2 ^ k) : nI v ||| nI (c * 2 ^ k) = nI (v + c * 2 ^ k) := by
  rw [cv_nor, Nat.or_comm, Nat.mul_comm c, ← Nat.two_pow_add_eq_or_of_lt hv, Nat.add_comm]
theorem cv_bit {m k : Nat} (hm : m < 2 ^ 31) (hk : k < 32) : (nI m >>> (nI k &&& 31)) &&& 1 = nI (m / 2 ^ k % 2) := by
  rw [pk_shrN hm _ k (s_l k hk)]
  have h2 : m / 2 ^ k ≤ m := Nat.div_le_self _ _
  exact pk_andN (by omega) 1 (by decide)
theorem cv_p8 {k : Nat} (hk : k ≤ 8) : 2 ^ k ≤ 256 := Nat.pow_le_pow_right (n := 2) (by decide) hk
theorem cv_shl {c k : Nat} (hc : c ≤ 1) (hk : k ≤ 8) : nI c <<< (nI k &&& 31) = nI (c * 2 ^ k) := by
  refine pk_shlN _ k (s_l k (by omega)) ?_
  have h := cv_p8 hk
  rcases (by omega : c = 0 ∨ c = 1) with rfl | rfl <;> omega
theorem cv_01 {x : Int32} (h : x = 0 ∨ x = 1) : x = nI (if x = 0 then 0 else 1) := by
  rcases h with rfl | rfl
  · decide
  · decide
theorem cv_01le (x : Int32) : (if x = 0 then 0 else 1) ≤ 1 := by split <;> decide
theorem cv_stX {a : Nat → Int32} {k : Nat} (hk : k < 8) (h : a k = 0 ∨ a k = 1) : nI (cv_v a k) ||| (a (nI k).toNatClampNeg <<< (nI k &&& 31)) = nI (cv_v a (k + 1)) := by
  have e : a k <<< (nI k &&& 31) = nI ((if a k = 0 then 0 else 1) * 2 ^ k) := by
    rw [← cv_shl (cv_01le (a k)) (by omega), ← cv_01 h]
  rw [nI_clamp (by omega), e, cv_or _ (cv_v_lt a k)]
  rfl
theorem cv_stY {a : Nat → Int32} {k : Nat} (hk : k < 8) (h : a k = 0 ∨ a k = 1) : nI (cv_v a k) + (a (nI k).toNatClampNeg <<< (nI k &&& 31)) = nI (cv_v a (k + 1)) := by
  have e : a k <<< (nI k &&& 31) = nI ((if a k = 0 then 0 else 1) * 2 ^ k) := by
    rw [← cv_shl (cv_01le (a k)) (by omega), ← cv_01 h]
  rw [nI_clamp (by omega), e, nI_add]
  rfl
theorem cv_N (l : Nat) : 2 * (nI l + 6) = nI (2 * (l + 6)) := by
  show nI 2 * (nI l + nI 6) = _
  rw [nI_add, pk_mul]
theorem cv_6 (l : Nat) : nI l + 6 = nI (l + 6) := nI_add l 6
theorem cv_2 (t : Nat) : 2 * nI t = nI (2 * t) := pk_mul 2 t
theorem cv_21 (t : Nat) : 2 * nI t + 1 = nI (2 * t + 1) := by rw [cv_2, nI_1]
theorem cv_C {l : Nat} (hl : l ≤ 8) : (1 : Int32) <<< (nI l &&& 31) = nI (2 ^ l) := by
  have h := cv_shl (c := 1) (k := l) (Nat.le_refl 1) hl
  rw [Nat.one_mul] at h
  exact h
theorem cv_ext {s f : Nat → Int32} {p : Nat} (h : ∀ q, q < p → s q = f q) : ∀ q, q < p + 1 → upd s p (f p) q = f q := by
  intro q hq
  by_cases c : q = p
  · subst c; exact pk_us
  · rw [pk_un c]; exact h q (by omega)
end
section
/-! the walks of bitAt, codeBit (component), tap, codeBit (reference) -/
theorem cv_bitAt {post : Int32 → Prop} {m t : Nat} {y : Int32} (j : Nat) (hm : m < 2 ^ 31) (ht : t < 30) (hj : j < 30) (hy : y = nI t - nI j) (h : post (nI (cv_b m t j))) : wpX_bitAt post (nI m) y := by
  unfold wpX_bitAt
  unfold cv_b at h
  by_cases c : j ≤ t
  · rw [if_pos c] at h
    rw [pk_sub c] at hy
    subst hy
    refine br_f (nI_pos (by omega)) (br_t (nI_le (b := 30) (by omega) (by decide)) ?_)
    rw [cv_bit hm (by omega)]
    exact h
  · rw [if_neg c] at h
    subst hy
    exact br_t (pk_sneg (by omega) (by omega)) h
theorem cv_codeX {post : Int32 → Prop} {m p : Nat} (hm : m < 2 ^ 31) (hp : p < 28) (h : post (nI (cv_c m p))) : wpX_codeBit post (nI m) (nI p) := by
  unfold wpX_codeBit
  have b := fun j => cv_b_lt m (p / 2) j
  have e1 : nI p >>> ((1 : Int32) &&& 31) = nI (p / 2) := pk_shrN (by omega) _ 1 (by decide)
  have e2 : nI p &&& 1 = nI (p % 2) := pk_andN (by omega) 1 (by decide)
  have ea : ∀ s : Nat, s < 10 → nI s &&& 1 = nI (s % 2) := fun s hs => pk_andN (by omega) 1 (by decide)
  have h0 := b 0
  have h1 := b 1
  have h2 := b 2
  have h3 := b 3
  have h5 := b 5
  have h6 := b 6
  refine nm_r e1 ?_
  refine pk_eq (p % 2) 0 (fun e => ?_) (fun e => ?_) e2 rfl (by omega) (by omega)
  · unfold cv_c at h
    rw [if_pos e] at h
    refine cv_bitAt 0 hm (by omega) (by omega) (Int32.sub_zero _).symm ?_
    refine cv_bitAt 1 hm (by omega) (by omega) rfl ?_
    refine cv_bitAt 2 hm (by omega) (by omega) rfl ?_
    refine cv_bitAt 3 hm (by omega) (by omega) rfl ?_
    refine cv_bitAt 6 hm (by omega) (by omega) rfl ?_
    refine nm_r (e' := nI (cv_b m (p / 2) 0 + cv_b m (p / 2) 1 + cv_b m (p / 2) 2 + cv_b m (p / 2) 3 + cv_b m (p / 2) 6)) (by simp only [nI_add]) ?_
    rw [ea _ (by omega)]
    exact h
  · unfold cv_c at h
    rw [if_neg e] at h
    refine cv_bitAt 0 hm (by omega) (by omega) (Int32.sub_zero _).symm ?_
    refine cv_bitAt 2 hm (by omega) (by omega) rfl ?_
    refine cv_bitAt 3 hm (by omega) (by omega) rfl ?_
    refine cv_bitAt 5 hm (by omega) (by omega) rfl ?_
    refine cv_bitAt 6 hm (by omega) (by omega) rfl ?_
    refine nm_r (e' := nI (cv_b m (p / 2) 0 + cv_b m (p / 2) 2 + cv_b m (p / 2) 3 + cv_b m (p / 2) 5 + cv_b m (p / 2) 6)) (by simp only [nI_add]) ?_
    rw [ea _ (by omega)]
    exact h
theorem cv_tap {post : Int32 → Prop} {w j : Nat} (hw : w < 2) (hj : j < 7) (h : post (nI (cv_t w j))) : wpY_tap post (nI w) (nI j) := by
  unfold wpY_tap
  refine pk_eq w 0 (fun e => ?_) (fun e => ?_)
  · subst e
    have k1 : (j = 0 ∨ j = 1 ∨ j = 2 ∨ j = 3 ∨ j = 6) → post 1 := fun c => by
      unfold cv_t at h
      rw [if_pos rfl, if_pos c] at h
      exact h
    have k0 : ¬ (j = 0 ∨ j = 1 ∨ j = 2 ∨ j = 3 ∨ j = 6) → post 0 := fun c => by
      unfold cv_t at h
      rw [if_pos rfl, if_neg c] at h
      exact h
    exact pk_eq j 0 (fun c => k1 (by omega)) (fun d0 => pk_eq j 1 (fun c => k1 (by omega)) (fun d1 => pk_eq j 2 (fun c => k1 (by omega)) (fun d2 => pk_eq j 3 (fun c => k1 (by omega)) (fun d3 => pk_eq j 6 (fun c => k1 (by omega)) (fun d6 => k0 (by omega))))))
  · have k1 : (j = 0 ∨ j = 2 ∨ j = 3 ∨ j = 5 ∨ j = 6) → post 1 := fun c => by
      unfold cv_t at h
      rw [if_neg e, if_pos c] at h
      exact h
    have k0 : ¬ (j = 0 ∨ j = 2 ∨ j = 3 ∨ j = 5 ∨ j = 6) → post 0 := fun c => by
      unfold cv_t at h
      rw [if_neg e, if_neg c] at h
      exact h
    exact pk_eq j 0 (fun c => k1 (by omega)) (fun d0 => pk_eq j 2 (fun c => k1 (by omega)) (fun d2 => pk_eq j 3 (fun c => k1 (by omega)) (fun d3 => pk_eq j 5 (fun c => k1 (by omega)) (fun d5 => pk_eq j 6 (fun c => k1 (by omega)) (fun d6 => k0 (by omega))))))
theorem cv_loopY {post : Int32 → Prop} {m t l w : Nat} {f_cap f_enc f_fresh : Int32} {a_msg a_dec a_tx a_rx : Nat → Int32} (hl : l ≤ 8) (hm : m < 2 ^ l) (ht : t < 14) (hw : w < 2) (h : post (nI (cv_f w m t 7))) : ∃ n, wY_codeBit_6 post (nI m) (nI t) (nI w) f_cap (nI l) f_enc f_fresh a_msg a_dec a_tx a_rx n (nI 0) (nI 0) := by
  have hm2 : m < 256 := Nat.lt_of_lt_of_le hm (cv_p8 hl)
  refine loop_0 (fun n j s => wY_codeBit_6 post (nI m) (nI t) (nI w) f_cap (nI l) f_enc f_fresh a_msg a_dec a_tx a_rx n s (nI j)) (fun j s => s = nI (cv_f w m t j)) 7 (nI 0) rfl ?_ ?_
  · intro n s e
    subst e
    exact br_t (nI_lt (a := 6) (by omega) (by omega)) h
  · intro n j s hj e ih
    subst e
    have K : wY_codeBit_6 post (nI m) (nI t) (nI w) f_cap (nI l) f_enc f_fresh a_msg a_dec a_tx a_rx n (nI (cv_f w m t (j + 1))) (nI (j + 1)) := ih _ rfl
    have K0 : ¬ (cv_t w j = 1 ∧ cv_b m t j = 1) → wY_codeBit_6 post (nI m) (nI t) (nI w) f_cap (nI l) f_enc f_fresh a_msg a_dec a_tx a_rx n (nI (cv_f w m t j)) (nI (j + 1)) := fun c => by
      rw [cv_f_keep c] at K
      exact K
    refine br_f (nI_nlt (a := 6) (by omega) (by omega)) ?_
    by_cases c : j ≤ t
    · have eb : cv_b m t j = m / 2 ^ (t - j) % 2 := if_pos c
      have ft : cv_t w j < 2 := cv_t_lt w j
      have fb : m / 2 ^ (t - j) % 2 < 2 := Nat.mod_lt _ (by decide)
      refine nm_r (pk_sub c) (br_f (nI_pos (by omega)) ?_)
      refine pk_le l (t - j) (fun d => nm_r (nI_1 j) (K0 (fun z => ?_))) (fun d => cv_tap hw hj ?_)
      · have := cv_b_hi (t := t) (j := j) hm d
        omega
      · refine pk_eq (cv_t w j) 1 (fun d1 => ?_) (fun d1 => nm_r (nI_1 j) (K0 (fun z => d1 z.1)))
        refine pk_eq (m / 2 ^ (t - j) % 2) 1 (fun d2 => ?_) (fun d2 => nm_r (nI_1 j) (K0 (fun z => d2 (eb.symm.trans z.2)))) (cv_bit (by omega) (by omega)) rfl (by omega) (by omega)
        refine nm_r (e' := nI (1 - cv_f w m t j)) (pk_sub (cv_f_le w m t j)) (nm_r (nI_1 j) ?_)
        rw [cv_f_flip ⟨d1, eb.trans d2⟩] at K
        exact K
    · refine nm_e (br_t (pk_sneg (by omega) (by omega)) (nm_r (nI_1 j) (K0 (fun z => ?_))))
      have eb : cv_b m t j = 0 := if_neg c
      omega
theorem cv_codeY {post : Int32 → Prop} {m t l : Nat} {f_cap f_enc f_fresh : Int32} {a_msg a_dec a_tx a_rx : Nat → Int32} (w : Nat) (hl : l ≤ 8) (hm : m < 2 ^ l) (ht : t < 14) (hw : w < 2) (h : post (nI (cv_c m (2 * t + w)))) : wpY_codeBit post (f_cap, nI l, f_enc, f_fresh, a_msg, a_dec, a_tx, a_rx) (nI m) (nI t) (nI w) := by
  rw [← cv_f_c hw] at h
  unfold wpY_codeBit
  exact cv_loopY hl hm ht hw h
end
section
/-! encode: the component's loops 21 and 58, the reference's 21 and 48 -/
theorem cv_encX2 {post : Int32 → SX → Prop} {l v : Nat} {f_cap f_enc f_dec f_decodedMsg : Int32} {a_msg a_tx a_rx : Nat → Int32} (hl : l ≤ 8) (hv : v < 2 ^ 31)
    (h : ∀ tx rx : Nat → Int32, (∀ p, p < 2 * (l + 6) → tx p = nI (cv_c v p)) → (∀ p, p < 2 * (l + 6) → rx p = nI (cv_c v p)) → post 1 (f_cap, nI l, 1, 0, f_decodedMsg, a_msg, tx, rx)) :
    ∃ n, wX_encode_58 post (nI v) (nI (2 * (l + 6))) f_cap (nI l) f_enc f_dec f_decodedMsg n (nI 0) a_msg a_tx a_rx := by
  refine loop_0 (fun n p (s : (Nat → Int32) × (Nat → Int32)) => wX_encode_58 post (nI v) (nI (2 * (l + 6))) f_cap (nI l) f_enc f_dec f_decodedMsg n (nI p) a_msg s.1 s.2)
    (fun p s => (∀ q, q < p → s.1 q = nI (cv_c v q)) ∧ (∀ q, q < p → s.2 q = nI (cv_c v q))) (2 * (l + 6)) (a_tx, a_rx) ⟨fun q hq => absurd hq (by omega), fun q hq => absurd hq (by omega)⟩ ?_ ?_
  · intro n s hs
    exact br_t (nI_le (Nat.le_refl _) (by omega)) (h s.1 s.2 hs.1 hs.2)
  · intro n p s hp hs ih
    have hi : vp_in (nI p) 28 := vp_in_nI (by omega) (by omega)
    have hc : (nI p).toNatClampNeg = p := nI_clamp (by omega)
    refine br_f (nI_ge hp (by omega)) (cv_codeX hv (by omega) ⟨hi, nm_r (e' := upd s.1 p (nI (cv_c v p))) (by rw [hc]) ⟨hi, nm_r (e' := upd s.2 p (nI (cv_c v p))) (by rw [hc]) (nm_r (nI_1 p) ?_)⟩⟩)
    exact ih (upd s.1 p (nI (cv_c v p)), upd s.2 p (nI (cv_c v p))) ⟨cv_ext (f := fun q => nI (cv_c v q)) hs.1, cv_ext (f := fun q => nI (cv_c v q)) hs.2⟩
theorem cv_encX1 {post : Int32 → SX → Prop} {l : Nat} {f_cap f_enc f_dec f_decodedMsg : Int32} {a_msg a_tx a_rx : Nat → Int32} (hl : l ≤ 8) (hb : ∀ i, i < l → a_msg i = 0 ∨ a_msg i = 1)
    (h : ∃ n58, wX_encode_58 post (nI (cv_v a_msg l)) (nI (2 * (l + 6))) f_cap (nI l) f_enc f_dec f_decodedMsg n58 (nI 0) a_msg a_tx a_rx) :
    ∃ n, wX_encode_21 post f_cap (nI l) f_enc f_dec f_decodedMsg a_msg a_tx a_rx n (nI 0) (nI 0) := by
  refine loop_0 (fun n k s => wX_encode_21 post f_cap (nI l) f_enc f_dec f_decodedMsg a_msg a_tx a_rx n s (nI k)) (fun k s => s = nI (cv_v a_msg k)) l (nI 0) rfl ?_ ?_
  · intro n s e
    subst e
    exact br_t (nI_le (Nat.le_refl _) (by omega)) (nm_r (cv_N l) h)
  · intro n k s hk e ih
    subst e
    exact br_f (nI_ge hk (by omega)) ⟨vp_in_nI (by omega) (by omega), nm_r (cv_stX (by omega) (hb k hk)) (nm_r (nI_1 k) (ih _ rfl))⟩
theorem cv_encX {post : Int32 → SX → Prop} {l : Nat} {f_cap f_enc f_dec f_decodedMsg : Int32} {a_msg a_tx a_rx : Nat → Int32} (hl : l ≤ 8) (h1 : 1 ≤ l) (he : f_enc = 0) (hb : ∀ i, i < l → a_msg i = 0 ∨ a_msg i = 1)
    (h : ∀ tx rx : Nat → Int32, (∀ p, p < 2 * (l + 6) → tx p = nI (cv_c (cv_v a_msg l) p)) → (∀ p, p < 2 * (l + 6) → rx p = nI (cv_c (cv_v a_msg l) p)) → post 1 (f_cap, nI l, 1, 0, f_decodedMsg, a_msg, tx, rx)) :
    wpX_encode post (f_cap, nI l, f_enc, f_dec, f_decodedMsg, a_msg, a_tx, a_rx) := by
  have hv : cv_v a_msg l < 256 := Nat.lt_of_lt_of_le (cv_v_lt a_msg l) (cv_p8 hl)
  unfold wpX_encode
  exact br_f (nI_nlt (b := 1) h1 (by omega)) (br_t he (cv_encX1 hl hb (cv_encX2 hl (by omega) h)))
theorem cv_encY2 {post : Int32 → SY → Prop} {l v : Nat} {f_cap f_enc f_fresh : Int32} {a_msg a_dec a_tx a_rx : Nat → Int32} (hl : l ≤ 8) (hv : v < 2 ^ l)
    (h : ∀ tx rx : Nat → Int32, (∀ p, p < 2 * (l + 6) → tx p = nI (cv_c v p)) → (∀ p, p < 2 * (l + 6) → rx p = nI (cv_c v p)) → post 1 (f_cap, nI l, 1, 0, a_msg, a_dec, tx, rx)) :
    ∃ n, wY_encode_48 post (nI v) f_cap (nI l) f_enc f_fresh n (nI 0) a_msg a_dec a_tx a_rx := by
  refine loop_0 (fun n t (s : (Nat → Int32) × (Nat → Int32)) => wY_encode_48 post (nI v) f_cap (nI l) f_enc f_fresh n (nI t) a_msg a_dec s.1 s.2)
    (fun t s => (∀ q, q < 2 * t → s.1 q = nI (cv_c v q)) ∧ (∀ q, q < 2 * t → s.2 q = nI (cv_c v q))) (l + 6) (a_tx, a_rx) ⟨fun q hq => absurd hq (by omega), fun q hq => absurd hq (by omega)⟩ ?_ ?_
  · intro n s hs
    exact br_t (by rw [cv_6]; exact nI_le (Nat.le_refl _) (by omega)) (h s.1 s.2 hs.1 hs.2)
  · intro n t s ht hs ih
    have i0 : vp_in (2 * nI t) 28 := by rw [cv_2]; exact vp_in_nI (by omega) (by omega)
    have i1 : vp_in (2 * nI t + 1) 28 := by rw [cv_21]; exact vp_in_nI (by omega) (by omega)
    have k0 : (2 * nI t).toNatClampNeg = 2 * t := by rw [cv_2]; exact nI_clamp (by omega)
    have k1 : (2 * nI t + 1).toNatClampNeg = 2 * t + 1 := by rw [cv_21]; exact nI_clamp (by omega)
    have ne : ¬ nI l + 6 ≤ nI t := by rw [cv_6]; exact nI_ge ht (by omega)
    have r0 : upd (upd s.1 (2 * t) (nI (cv_c v (2 * t)))) (2 * t + 1) (nI (cv_c v (2 * t + 1))) (2 * t) = nI (cv_c v (2 * t)) := by
      rw [pk_un (by omega), pk_us]
    have r1 : upd (upd s.1 (2 * t) (nI (cv_c v (2 * t)))) (2 * t + 1) (nI (cv_c v (2 * t + 1))) (2 * t + 1) = nI (cv_c v (2 * t + 1)) := pk_us
    refine br_f ne (cv_codeY 0 hl hv (by omega) (by omega) ⟨i0, nm_r (e' := upd s.1 (2 * t) (nI (cv_c v (2 * t)))) (by rw [k0]; rfl) ?_⟩)
    refine cv_codeY 1 hl hv (by omega) (by omega) ⟨i1, nm_r (e' := upd (upd s.1 (2 * t) (nI (cv_c v (2 * t)))) (2 * t + 1) (nI (cv_c v (2 * t + 1)))) (by rw [k1]) ⟨i0, i0, ?_⟩⟩
    refine nm_r (e' := upd s.2 (2 * t) (nI (cv_c v (2 * t)))) (by rw [k0, r0]) ⟨i1, i1, ?_⟩
    refine nm_r (e' := upd (upd s.2 (2 * t) (nI (cv_c v (2 * t)))) (2 * t + 1) (nI (cv_c v (2 * t + 1)))) (by rw [k1, r1]) (nm_r (nI_1 t) ?_)
    exact ih (upd (upd s.1 (2 * t) (nI (cv_c v (2 * t)))) (2 * t + 1) (nI (cv_c v (2 * t + 1))), upd (upd s.2 (2 * t) (nI (cv_c v (2 * t)))) (2 * t + 1) (nI (cv_c v (2 * t + 1))))
      ⟨fun q hq => cv_ext (f := fun q => nI (cv_c v q)) (cv_ext (f := fun q => nI (cv_c v q)) hs.1) q (by omega), fun q hq => cv_ext (f := fun q => nI (cv_c v q)) (cv_ext (f := fun q => nI (cv_c v q)) hs.2) q (by omega)⟩
theorem cv_encY1 {post : Int32 → SY → Prop} {l : Nat} {f_cap f_enc f_fresh : Int32} {a_msg a_dec a_tx a_rx : Nat → Int32} (hl : l ≤ 8) (hb : ∀ i, i < l → a_msg i = 0 ∨ a_msg i = 1)
    (h : ∃ n48, wY_encode_48 post (nI (cv_v a_msg l)) f_cap (nI l) f_enc f_fresh n48 (nI 0) a_msg a_dec a_tx a_rx) :
    ∃ n, wY_encode_21 post f_cap (nI l) f_enc f_fresh a_msg a_dec a_tx a_rx n (nI 0) (nI 0) := by
  refine loop_0 (fun n k s => wY_encode_21 post f_cap (nI l) f_enc f_fresh a_msg a_dec a_tx a_rx n s (nI k)) (fun k s => s = nI (cv_v a_msg k)) l (nI 0) rfl ?_ ?_
  · intro n s e
    subst e
    exact br_t (nI_le (Nat.le_refl _) (by omega)) h
  · intro n k s hk e ih
    subst e
    exact br_f (nI_ge hk (by omega)) ⟨vp_in_nI (by omega) (by omega), nm_r (cv_stY (by omega) (hb k hk)) (nm_r (nI_1 k) (ih _ rfl))⟩
theorem cv_encY {post : Int32 → SY → Prop} {l : Nat} {f_cap f_enc f_fresh : Int32} {a_msg a_dec a_tx a_rx : Nat → Int32} (hl : l ≤ 8) (h1 : 1 ≤ l) (he : f_enc = 0) (hb : ∀ i, i < l → a_msg i = 0 ∨ a_msg i = 1)
    (h : ∀ tx rx : Nat → Int32, (∀ p, p < 2 * (l + 6) → tx p = nI (cv_c (cv_v a_msg l) p)) → (∀ p, p < 2 * (l + 6) → rx p = nI (cv_c (cv_v a_msg l) p)) → post 1 (f_cap, nI l, 1, 0, a_msg, a_dec, tx, rx)) :
    wpY_encode post (f_cap, nI l, f_enc, f_fresh, a_msg, a_dec, a_tx, a_rx) := by
  unfold wpY_encode
  exact br_f (nI_nlt (b := 1) h1 (by omega)) (br_t he (cv_encY1 hl hb (cv_encY2 hl (cv_v_lt a_msg l) h)))
end
section
/-! decode: the component's loops 48 and 36, the reference's 37 (with its join 76), 25 and 132 -/
theorem cv_decX48 {post : Int32 → SX → Prop} {J : Int32 → Int32 → Int32 → Prop} {m N z : Nat} {x2 b f_cap f_len f_enc f_dec f_decodedMsg : Int32} {a_msg a_tx a_rx : Nat → Int32} (hm : m < 256) (hN : N ≤ 28) (hz : z < 2 ^ 31)
    (h1 : z ≤ cv_d m a_rx N → J (nI z) b (nI (m + 1))) (h2 : cv_d m a_rx N < z → J (nI (cv_d m a_rx N)) (nI m) (nI (m + 1))) :
    ∃ n, wX_decode_48 post J (nI N) x2 (nI z) b (nI m) f_cap f_len f_enc f_dec f_decodedMsg a_msg a_tx a_rx n (nI 0) (nI 0) := by
  refine loop_0 (fun n p s => wX_decode_48 post J (nI N) x2 (nI z) b (nI m) f_cap f_len f_enc f_dec f_decodedMsg a_msg a_tx a_rx n s (nI p)) (fun p s => s = nI (cv_d m a_rx p)) N (nI 0) rfl ?_ ?_
  · intro n s e
    subst e
    have hd := cv_d_le m a_rx N
    exact br_t (nI_le (Nat.le_refl _) (by omega)) (pk_le z (cv_d m a_rx N) (fun c => nm_r (nI_1 m) (h1 c)) (fun c => nm_r (nI_1 m) (h2 c)))
  · intro n p s hp e ih
    subst e
    have K : wX_decode_48 post J (nI N) x2 (nI z) b (nI m) f_cap f_len f_enc f_dec f_decodedMsg a_msg a_tx a_rx n (nI (cv_d m a_rx (p + 1))) (nI (p + 1)) := ih _ rfl
    have hc : (nI p).toNatClampNeg = p := nI_clamp (by omega)
    refine br_f (nI_ge hp (by omega)) (cv_codeX (by omega) (by omega) ⟨vp_in_nI (by omega) (by omega), br_c (fun c => nm_r (nI_1 p) ?_) (fun c => nm_r (nI_1 _) (nm_r (nI_1 p) ?_))⟩)
    · rw [hc] at c
      rw [cv_d_t c] at K
      exact K
    · rw [hc] at c
      rw [cv_d_f c] at K
      exact K
theorem cv_decX36 {post : Int32 → SX → Prop} {l N z : Nat} {f_cap f_len f_enc f_dec f_decodedMsg : Int32} {a_msg a_tx a_rx : Nat → Int32} (hl : l ≤ 8) (hN : N ≤ 28) (hz : z < 2 ^ 31)
    (h : post (nI (cv_o a_rx N z (2 ^ l)).1) (f_cap, f_len, f_enc, 1, nI (cv_o a_rx N z (2 ^ l)).2, a_msg, a_tx, a_rx)) :
    ∃ n, wX_decode_36 post (nI N) (nI (2 ^ l)) f_cap f_len f_enc f_dec f_decodedMsg a_msg a_tx a_rx n (nI z) (nI 0) (nI 0) := by
  have hp := cv_p8 hl
  refine loop_0 (fun n m (s : Int32 × Int32) => wX_decode_36 post (nI N) (nI (2 ^ l)) f_cap f_len f_enc f_dec f_decodedMsg a_msg a_tx a_rx n s.1 s.2 (nI m)) (fun m s => s = (nI (cv_o a_rx N z m).1, nI (cv_o a_rx N z m).2)) (2 ^ l) (nI z, nI 0) rfl ?_ ?_
  · intro n s e
    subst e
    exact br_t (nI_le (Nat.le_refl _) (by omega)) h
  · intro n m s hm e ih
    subst e
    have hz2 := cv_o_le a_rx N z m
    refine br_f (nI_ge hm (by omega)) (cv_decX48 (by omega) hN (by omega) (fun c => ?_) (fun c => ?_))
    · exact ih (nI (cv_o a_rx N z m).1, nI (cv_o a_rx N z m).2) (by rw [cv_o_k c])
    · exact ih (nI (cv_d m a_rx N), nI m) (by rw [cv_o_n c])
theorem cv_decX {post : Int32 → SX → Prop} {l : Nat} {f_cap f_enc f_dec f_decodedMsg : Int32} {a_msg a_tx a_rx : Nat → Int32} (hl : l ≤ 8) (he : ¬ f_enc = 0)
    (h : post (nI (cv_o a_rx (2 * (l + 6)) (2 * (l + 6) + 1) (2 ^ l)).1) (f_cap, nI l, f_enc, 1, nI (cv_o a_rx (2 * (l + 6)) (2 * (l + 6) + 1) (2 ^ l)).2, a_msg, a_tx, a_rx)) :
    wpX_decode post (f_cap, nI l, f_enc, f_dec, f_decodedMsg, a_msg, a_tx, a_rx) := by
  unfold wpX_decode
  exact br_f he (nm_r (cv_N l) (nm_r (cv_C hl) (nm_r (nI_1 _) (cv_decX36 hl (by omega) (by omega) h))))
theorem cv_decY76 {post : Int32 → SY → Prop} {J25 : Int32 → Int32 → Int32 → Prop} {J37 : Int32 → Int32 → Prop} {l m t D : Nat} {x1 x2 x3 f_cap f_enc f_fresh : Int32} {a_msg a_dec a_tx a_rx : Nat → Int32} (hl : l ≤ 8) (hm : m < 2 ^ l) (ht : t < l + 6) (hD : D = cv_d m a_rx (2 * t + 1))
    (h : J37 (nI (cv_d m a_rx (2 * (t + 1)))) (nI (t + 1))) :
    wY_decode_76 post J25 J37 x1 x2 x3 (nI m) (nI D) (nI t) f_cap (nI l) f_enc f_fresh a_msg a_dec a_tx a_rx := by
  have i1 : vp_in (2 * nI t + 1) 28 := by rw [cv_21]; exact vp_in_nI (by omega) (by omega)
  have k1 : (2 * nI t + 1).toNatClampNeg = 2 * t + 1 := by rw [cv_21]; exact nI_clamp (by omega)
  have h' : J37 (nI (cv_d m a_rx (2 * t + 1 + 1))) (nI (t + 1)) := h
  subst hD
  unfold wY_decode_76
  refine cv_codeY 1 hl hm (by omega) (by omega) ⟨i1, br_c (fun c => nm_r (nI_1 t) ?_) (fun c => nm_r (nI_1 _) (nm_r (nI_1 t) ?_))⟩
  · rw [k1] at c
    rw [cv_d_t c] at h'
    exact h'
  · rw [k1] at c
    rw [cv_d_f c] at h'
    exact h'
theorem cv_decY37 {post : Int32 → SY → Prop} {J : Int32 → Int32 → Int32 → Prop} {l m z : Nat} {x3 b f_cap f_enc f_fresh : Int32} {a_msg a_dec a_tx a_rx : Nat → Int32} (hl : l ≤ 8) (hm : m < 2 ^ l) (hz : z < 2 ^ 31)
    (h1 : z ≤ cv_d m a_rx (2 * (l + 6)) → J (nI z) b (nI (m + 1))) (h2 : cv_d m a_rx (2 * (l + 6)) < z → J (nI (cv_d m a_rx (2 * (l + 6)))) (nI m) (nI (m + 1))) :
    ∃ n, wY_decode_37 post J (nI z) b x3 (nI m) f_cap (nI l) f_enc f_fresh a_msg a_dec a_tx a_rx n (nI 0) (nI 0) := by
  refine loop_0 (fun n t s => wY_decode_37 post J (nI z) b x3 (nI m) f_cap (nI l) f_enc f_fresh a_msg a_dec a_tx a_rx n s (nI t)) (fun t s => s = nI (cv_d m a_rx (2 * t))) (l + 6) (nI 0) rfl ?_ ?_
  · intro n s e
    subst e
    have hd := cv_d_le m a_rx (2 * (l + 6))
    exact br_t (by rw [cv_6]; exact nI_le (Nat.le_refl _) (by omega)) (pk_le z (cv_d m a_rx (2 * (l + 6))) (fun c => nm_r (nI_1 m) (h1 c)) (fun c => nm_r (nI_1 m) (h2 c)))
  · intro n t s ht e ih
    subst e
    have i0 : vp_in (2 * nI t) 28 := by rw [cv_2]; exact vp_in_nI (by omega) (by omega)
    have k0 : (2 * nI t).toNatClampNeg = 2 * t := by rw [cv_2]; exact nI_clamp (by omega)
    have ne : ¬ nI l + 6 ≤ nI t := by rw [cv_6]; exact nI_ge ht (by omega)
    refine br_f ne (cv_codeY 0 hl hm (by omega) (by omega) ⟨i0, br_c (fun c => ?_) (fun c => nm_r (nI_1 _) ?_)⟩)
    · rw [k0] at c
      exact cv_decY76 hl hm ht (cv_d_t c).symm (ih _ rfl)
    · rw [k0] at c
      exact cv_decY76 hl hm ht (cv_d_f c).symm (ih _ rfl)
theorem cv_decY132 {post : Int32 → SY → Prop} {l : Nat} {x1 x2 f_cap f_enc f_fresh : Int32} {a_msg a_dec a_tx a_rx : Nat → Int32} (hl : l ≤ 8)
    (h : ∀ dec : Nat → Int32, (∀ k, k < l → dec k = (x2 >>> (nI k &&& 31)) &&& 1) → post x1 (f_cap, nI l, f_enc, 1, a_msg, dec, a_tx, a_rx)) :
    ∃ n, wY_decode_132 post x1 x2 f_cap (nI l) f_enc f_fresh n (nI 0) a_msg a_dec a_tx a_rx := by
  refine loop_0 (fun n k (s : Nat → Int32) => wY_decode_132 post x1 x2 f_cap (nI l) f_enc f_fresh n (nI k) a_msg s a_tx a_rx) (fun k s => ∀ q, q < k → s q = (x2 >>> (nI q &&& 31)) &&& 1) l a_dec (fun q hq => absurd hq (by omega)) ?_ ?_
  · intro n s hs
    exact br_t (nI_le (Nat.le_refl _) (by omega)) (h s hs)
  · intro n k s hk hs ih
    have hc : (nI k).toNatClampNeg = k := nI_clamp (by omega)
    refine br_f (nI_ge hk (by omega)) ⟨vp_in_nI (by omega) (by omega), nm_r (e' := upd s k ((x2 >>> (nI k &&& 31)) &&& 1)) (by rw [hc]) (nm_r (nI_1 k) ?_)⟩
    exact ih (upd s k ((x2 >>> (nI k &&& 31)) &&& 1)) (cv_ext (f := fun q => (x2 >>> (nI q &&& 31)) &&& 1) hs)
theorem cv_decY25 {post : Int32 → SY → Prop} {l z : Nat} {f_cap f_enc f_fresh : Int32} {a_msg a_dec a_tx a_rx : Nat → Int32} (hl : l ≤ 8) (hz : z < 2 ^ 31)
    (h : ∀ dec : Nat → Int32, (∀ k, k < l → dec k = (nI (cv_o a_rx (2 * (l + 6)) z (2 ^ l)).2 >>> (nI k &&& 31)) &&& 1) → post (nI (cv_o a_rx (2 * (l + 6)) z (2 ^ l)).1) (f_cap, nI l, f_enc, 1, a_msg, dec, a_tx, a_rx)) :
    ∃ n, wY_decode_25 post (nI (2 ^ l)) f_cap (nI l) f_enc f_fresh a_msg a_dec a_tx a_rx n (nI z) (nI 0) (nI 0) := by
  have hp := cv_p8 hl
  refine loop_0 (fun n m (s : Int32 × Int32) => wY_decode_25 post (nI (2 ^ l)) f_cap (nI l) f_enc f_fresh a_msg a_dec a_tx a_rx n s.1 s.2 (nI m)) (fun m s => s = (nI (cv_o a_rx (2 * (l + 6)) z m).1, nI (cv_o a_rx (2 * (l + 6)) z m).2)) (2 ^ l) (nI z, nI 0) rfl ?_ ?_
  · intro n s e
    subst e
    exact br_t (nI_le (Nat.le_refl _) (by omega)) (cv_decY132 hl h)
  · intro n m s hm e ih
    subst e
    have hz2 := cv_o_le a_rx (2 * (l + 6)) z m
    refine br_f (nI_ge hm (by omega)) (cv_decY37 hl hm (by omega) (fun c => ?_) (fun c => ?_))
    · exact ih (nI (cv_o a_rx (2 * (l + 6)) z m).1, nI (cv_o a_rx (2 * (l + 6)) z m).2) (by rw [cv_o_k c])
    · exact ih (nI (cv_d m a_rx (2 * (l + 6))), nI m) (by rw [cv_o_n c])
theorem cv_decY {post : Int32 → SY → Prop} {l : Nat} {f_cap f_enc f_fresh : Int32} {a_msg a_dec a_tx a_rx : Nat → Int32} (hl : l ≤ 8) (he : ¬ f_enc = 0)
    (h : ∀ dec : Nat → Int32, (∀ k, k < l → dec k = (nI (cv_o a_rx (2 * (l + 6)) 1000 (2 ^ l)).2 >>> (nI k &&& 31)) &&& 1) → post (nI (cv_o a_rx (2 * (l + 6)) 1000 (2 ^ l)).1) (f_cap, nI l, f_enc, 1, a_msg, dec, a_tx, a_rx)) :
    wpY_decode post (f_cap, nI l, f_enc, f_fresh, a_msg, a_dec, a_tx, a_rx) := by
  unfold wpY_decode
  exact br_f he (nm_r (cv_C hl) (cv_decY25 (z := 1000) hl (by decide) h))
end
section
/-! the relation, and the owed statements -/
/-- what holds of two related states: the same capacity c, length l, flags e and d; the same message, a bit each, below l; where encoded, the same sent and received words below 2 * (l + 6); where decoded, the reference's bits are those of the component's number -/
def cv_R (c l : Nat) (e d dm : Int32) (am atx arx bm bd btx brx : Nat → Int32) : Prop :=
  c ≤ 8 ∧ l ≤ c ∧ (e = 0 ∨ e = 1) ∧ (¬ e = 0 → 1 ≤ l) ∧ (¬ d = 0 → ¬ e = 0) ∧
  (∀ i, i < l → am i = bm i ∧ (bm i = 0 ∨ bm i = 1)) ∧
  (¬ e = 0 → ∀ p, p < 2 * (l + 6) → atx p = btx p ∧ arx p = brx p) ∧
  (¬ d = 0 → ∀ k, k < l → bd k = (dm >>> (nI k &&& 31)) &&& 1)
def i_Rel (k : Nat) (u : SX) (v : SY) : Prop :=
  ∃ (c l : Nat) (e d dm : Int32) (am atx arx bm bd btx brx : Nat → Int32), u = (nI c, nI l, e, d, dm, am, atx, arx) ∧ v = (nI c, nI l, e, d, bm, bd, btx, brx) ∧ cv_R c l e d dm am atx arx bm bd btx brx
theorem cv_mk {k c l : Nat} {e d dm : Int32} {am atx arx bm bd btx brx : Nat → Int32} (h : cv_R c l e d dm am atx arx bm bd btx brx) : i_Rel k (nI c, nI l, e, d, dm, am, atx, arx) (nI c, nI l, e, d, bm, bd, btx, brx) := ⟨c, l, e, d, dm, am, atx, arx, bm, bd, btx, brx, rfl, rfl, h⟩
theorem i_up {k : Nat} {u : SX} {v : SY} (h : i_Rel k u v) : i_Rel (k + 2) u v := h
theorem cv_R0 {c : Nat} {dm : Int32} {am atx arx bm bd btx brx : Nat → Int32} (hc : c ≤ 8) : cv_R c 0 0 0 dm am atx arx bm bd btx brx :=
  ⟨hc, Nat.zero_le c, Or.inl rfl, fun z => absurd rfl z, fun z => absurd rfl z, fun i hi => absurd hi (by omega), fun z => absurd rfl z, fun z => absurd rfl z⟩
theorem i_vc0 (k0 : Int32) : wpX_init (fun u => wpY_init (fun v => i_Rel 1 u v) k0) k0 := by
  by_cases h0 : 0 ≤ k0
  · by_cases h8 : k0 ≤ 8
    · obtain ⟨c, hc, e⟩ := nI_of2 (n := 8) (M := 8) (by decide) (Int32.not_lt.mpr h0) h8
      have R : i_Rel 1 (nI c, nI 0, 0, 0, 0, fun _ => 0, fun _ => 0, fun _ => 0) (nI c, nI 0, 0, 0, fun _ => 0, fun _ => 0, fun _ => 0, fun _ => 0) := cv_mk (cv_R0 hc)
      rw [← e] at R
      exact br_t h0 (br_t h8 (br_t h0 (br_t h8 R)))
    · exact br_t h0 (br_f h8 (br_t h0 (br_f h8 (cv_mk (k := 1) (c := 8) (l := 0) (cv_R0 (Nat.le_refl 8))))))
  · have h8 : (0 : Int32) ≤ 8 := by decide
    exact br_f h0 (br_t h8 (br_f h0 (br_t h8 (cv_mk (k := 1) (c := 0) (l := 0) (cv_R0 (Nat.zero_le 8))))))
theorem i_vc_capacity {k : Nat} {u : SX} {v : SY} (I : i_Rel k u v) (hk : k + 2 ≤ 1025) : wpX_capacity (fun r => wpY_capacity (fun r' => r' = r ∧ i_Rel (k + 2) u v) v) u := by
  obtain ⟨c, l, e, d, dm, am, atx, arx, bm, bd, btx, brx, rfl, rfl, h⟩ := I
  exact ⟨rfl, cv_mk h⟩
theorem i_vc_length {k : Nat} {u : SX} {v : SY} (I : i_Rel k u v) (hk : k + 2 ≤ 1025) : wpX_length (fun r => wpY_length (fun r' => r' = r ∧ i_Rel (k + 2) u v) v) u := by
  obtain ⟨c, l, e, d, dm, am, atx, arx, bm, bd, btx, brx, rfl, rfl, h⟩ := I
  exact ⟨rfl, cv_mk h⟩
theorem cv_nar {e : Int32} (h : e = 0 ∨ e = 1) : narrow .boolean (.int e) = .int e := by
  rcases h with rfl | rfl
  · rfl
  · rfl
theorem i_vc_encoded {k : Nat} {u : SX} {v : SY} (I : i_Rel k u v) (hk : k + 2 ≤ 1025) : wpX_encoded (fun r => wpY_encoded (fun r' => r' = r ∧ i_Rel (k + 2) u v) v) u := by
  obtain ⟨c, l, e, d, dm, am, atx, arx, bm, bd, btx, brx, rfl, rfl, h⟩ := I
  exact ⟨cv_nar h.2.2.1, cv_nar h.2.2.1, rfl, cv_mk h⟩
theorem i_vc_feed {k : Nat} {u : SX} {v : SY} (I : i_Rel k u v) (hk : k + 2 ≤ 1025) (v1 : Int32) : wpX_feed (fun r u' => wpY_feed (fun r' v' => r' = r ∧ i_Rel (k + 2) u' v') v v1) u v1 := by
  obtain ⟨c, l, e, d, dm, am, atx, arx, bm, bd, btx, brx, rfl, rfl, h⟩ := I
  obtain ⟨hc, hl, he, hel, hde, hm, hx, hd⟩ := h
  have R : cv_R c l e d dm am atx arx bm bd btx brx := ⟨hc, hl, he, hel, hde, hm, hx, hd⟩
  by_cases hv : v1 = 0 ∨ v1 = 1
  · have KX : ∀ post, wX_feed_11 post v1 (nI c) (nI l) e d dm am atx arx → wpX_feed post (nI c, nI l, e, d, dm, am, atx, arx) v1 := fun post w => br_c (fun _ => w) (fun z => br_t (hv.resolve_left z) w)
    have KY : ∀ post, wY_feed_11 post v1 (nI c) (nI l) e d bm bd btx brx → wpY_feed post (nI c, nI l, e, d, bm, bd, btx, brx) v1 := fun post w => br_c (fun _ => w) (fun z => br_t (hv.resolve_left z) w)
    refine KX _ ?_
    by_cases hcl : nI c ≤ nI l
    · exact br_t hcl (KY _ (br_t hcl ⟨rfl, cv_mk R⟩))
    · by_cases h0 : e = 0
      · have hlt : l < c := by
          rw [nI_leI (by omega) (by omega)] at hcl
          omega
        have hi : vp_in (nI l) 8 := vp_in_nI (by omega) (by omega)
        have hcp : (nI l).toNatClampNeg = l := nI_clamp (by omega)
        have hd0 : d = 0 := Decidable.byContradiction (fun z => hde z h0)
        refine br_f hcl (br_t h0 ⟨hi, nm_r (e' := upd am l v1) (by rw [hcp]) (nm_r (nI_1 l) (KY _ (br_f hcl (br_t h0 ⟨hi, nm_r (e' := upd bm l v1) (by rw [hcp]) (nm_r (nI_1 l) ⟨rfl, cv_mk ?_⟩)⟩))))⟩)
        refine ⟨hc, hlt, he, fun z => absurd h0 z, hde, fun i hil => ?_, fun z => absurd h0 z, fun z => absurd hd0 z⟩
        by_cases hq : i = l
        · subst hq
          rw [pk_us, pk_us]
          exact ⟨rfl, hv⟩
        · rw [pk_un hq, pk_un hq]
          exact hm i (by omega)
      · exact br_f hcl (br_f h0 (KY _ (br_f hcl (br_f h0 ⟨rfl, cv_mk R⟩))))
  · have n0 : ¬ v1 = 0 := fun z => hv (Or.inl z)
    have n1 : ¬ v1 = 1 := fun z => hv (Or.inr z)
    exact br_f n0 (br_f n1 (br_f n0 (br_f n1 ⟨rfl, cv_mk R⟩)))
theorem i_vc_encode {k : Nat} {u : SX} {v : SY} (I : i_Rel k u v) (hk : k + 2 ≤ 1025) : wpX_encode (fun r u' => wpY_encode (fun r' v' => r' = r ∧ i_Rel (k + 2) u' v') v) u := by
  obtain ⟨c, l, e, d, dm, am, atx, arx, bm, bd, btx, brx, rfl, rfl, h⟩ := I
  obtain ⟨hc, hl, he, hel, hde, hm, hx, hd⟩ := h
  have R : cv_R c l e d dm am atx arx bm bd btx brx := ⟨hc, hl, he, hel, hde, hm, hx, hd⟩
  by_cases h1 : nI l < 1
  · exact br_t h1 (br_t h1 ⟨rfl, cv_mk R⟩)
  · by_cases h0 : e = 0
    · have hl1 : 1 ≤ l := by
        have hq : ¬ nI l < nI 1 := h1
        rw [nI_ltI (by omega) (by omega)] at hq
        omega
      have ev : cv_v am l = cv_v bm l := cv_v_eq (fun i hi => (hm i hi).1)
      refine cv_encX (by omega) hl1 h0 (fun i hi => by rw [(hm i hi).1]; exact (hm i hi).2) (fun tx rx ht hr => ?_)
      refine cv_encY (by omega) hl1 h0 (fun i hi => (hm i hi).2) (fun ty ry hty hry => ⟨rfl, cv_mk ?_⟩)
      refine ⟨hc, hl, Or.inr rfl, fun _ => hl1, fun z => absurd rfl z, hm, fun _ p hp => ⟨?_, ?_⟩, fun z => absurd rfl z⟩
      · rw [ht p hp, hty p hp, ev]
      · rw [hr p hp, hry p hp, ev]
    · exact br_f h1 (br_f h0 (br_f h1 (br_f h0 ⟨rfl, cv_mk R⟩)))
theorem cv_ix {v1 : Int32} {l : Nat} (hl : l ≤ 8) (h0 : ¬ v1 < 0) (h : v1 < 2 * (nI l + 6)) : ∃ j, j < 2 * (l + 6) ∧ v1 = nI j := by
  obtain ⟨j, hj, rfl⟩ := nI_of h0
  rw [cv_N, nI_ltI hj (by omega)] at h
  exact ⟨j, h, rfl⟩
theorem i_vc_flip {k : Nat} {u : SX} {v : SY} (I : i_Rel k u v) (hk : k + 2 ≤ 1025) (v1 : Int32) : wpX_flip (fun r u' => wpY_flip (fun r' v' => r' = r ∧ i_Rel (k + 2) u' v') v v1) u v1 := by
  obtain ⟨c, l, e, d, dm, am, atx, arx, bm, bd, btx, brx, rfl, rfl, h⟩ := I
  obtain ⟨hc, hl, he, hel, hde, hm, hx, hd⟩ := h
  have R : cv_R c l e d dm am atx arx bm bd btx brx := ⟨hc, hl, he, hel, hde, hm, hx, hd⟩
  by_cases h0 : e = 0
  · exact br_t h0 (br_t h0 ⟨rfl, cv_mk R⟩)
  · by_cases hn : v1 < 0
    · exact br_f h0 (br_t hn (br_f h0 (br_t hn ⟨rfl, cv_mk R⟩)))
    · by_cases hb : v1 < 2 * (nI l + 6)
      · obtain ⟨j, hj, rfl⟩ := cv_ix (by omega) hn hb
        have hi : vp_in (nI j) 28 := vp_in_nI (by omega) (by omega)
        have hcp : (nI j).toNatClampNeg = j := nI_clamp (by omega)
        refine br_f h0 (br_f hn (br_t hb ⟨hi, hi, nm_r (e' := upd arx j (1 - arx j)) (by rw [hcp]) (br_f h0 (br_f hn (br_t hb ⟨hi, hi, nm_r (e' := upd brx j (1 - brx j)) (by rw [hcp]) ⟨rfl, cv_mk ?_⟩⟩)))⟩))
        refine ⟨hc, hl, he, hel, fun z => absurd rfl z, hm, fun _ p hp => ⟨(hx h0 p hp).1, ?_⟩, fun z => absurd rfl z⟩
        rw [(hx h0 j hj).2]
        by_cases hq : p = j
        · subst hq
          rw [pk_us, pk_us]
        · rw [pk_un hq, pk_un hq]
          exact (hx h0 p hp).2
      · exact br_f h0 (br_f hn (br_f hb (br_f h0 (br_f hn (br_f hb ⟨rfl, cv_mk R⟩)))))
theorem i_vc_decode {k : Nat} {u : SX} {v : SY} (I : i_Rel k u v) (hk : k + 2 ≤ 1025) : wpX_decode (fun r u' => wpY_decode (fun r' v' => r' = r ∧ i_Rel (k + 2) u' v') v) u := by
  obtain ⟨c, l, e, d, dm, am, atx, arx, bm, bd, btx, brx, rfl, rfl, h⟩ := I
  obtain ⟨hc, hl, he, hel, hde, hm, hx, hd⟩ := h
  have R : cv_R c l e d dm am atx arx bm bd btx brx := ⟨hc, hl, he, hel, hde, hm, hx, hd⟩
  by_cases h0 : e = 0
  · exact br_t h0 (br_t h0 ⟨rfl, cv_mk R⟩)
  · have hpos : 0 < 2 ^ l := Nat.two_pow_pos l
    have eo : cv_o arx (2 * (l + 6)) (2 * (l + 6) + 1) (2 ^ l) = cv_o brx (2 * (l + 6)) 1000 (2 ^ l) := by
      obtain ⟨q, eq⟩ : ∃ q, 2 ^ l = q + 1 := ⟨2 ^ l - 1, by omega⟩
      rw [eq]
      exact cv_o_eq (fun i hi => (hx h0 i hi).2) (by omega) (by omega) q
    refine cv_decX (by omega) h0 ?_
    refine cv_decY (by omega) h0 (fun dec hdec => ?_)
    rw [eo]
    exact ⟨rfl, cv_mk ⟨hc, hl, he, hel, fun _ => h0, hm, hx, fun _ => hdec⟩⟩
theorem i_vc_out {k : Nat} {u : SX} {v : SY} (I : i_Rel k u v) (hk : k + 2 ≤ 1025) (v1 : Int32) : wpX_out (fun r => wpY_out (fun r' => r' = r ∧ i_Rel (k + 2) u v) v v1) u v1 := by
  obtain ⟨c, l, e, d, dm, am, atx, arx, bm, bd, btx, brx, rfl, rfl, h⟩ := I
  obtain ⟨hc, hl, he, hel, hde, hm, hx, hd⟩ := h
  have R : cv_R c l e d dm am atx arx bm bd btx brx := ⟨hc, hl, he, hel, hde, hm, hx, hd⟩
  by_cases h0 : d = 0
  · exact br_t h0 (br_t h0 ⟨rfl, cv_mk R⟩)
  · by_cases hn : v1 < 0
    · exact br_f h0 (br_t hn (br_f h0 (br_t hn ⟨rfl, cv_mk R⟩)))
    · by_cases hb : v1 < nI l
      · obtain ⟨j, hj, rfl⟩ := nI_of hn
        have hjl : j < l := (nI_ltI hj (by omega)).mp hb
        have hi : vp_in (nI j) 8 := vp_in_nI (by omega) (by omega)
        have hcp : (nI j).toNatClampNeg = j := nI_clamp (by omega)
        exact br_f h0 (br_f hn (br_t hb (br_f h0 (br_f hn (br_t hb ⟨hi, by rw [hcp]; exact hd h0 j hjl, cv_mk R⟩)))))
      · exact br_f h0 (br_f hn (br_f hb (br_f h0 (br_f hn (br_f hb ⟨rfl, cv_mk R⟩)))))
theorem i_vc_sent {k : Nat} {u : SX} {v : SY} (I : i_Rel k u v) (hk : k + 2 ≤ 1025) (v1 : Int32) : wpX_sent (fun r => wpY_sent (fun r' => r' = r ∧ i_Rel (k + 2) u v) v v1) u v1 := by
  obtain ⟨c, l, e, d, dm, am, atx, arx, bm, bd, btx, brx, rfl, rfl, h⟩ := I
  obtain ⟨hc, hl, he, hel, hde, hm, hx, hd⟩ := h
  have R : cv_R c l e d dm am atx arx bm bd btx brx := ⟨hc, hl, he, hel, hde, hm, hx, hd⟩
  by_cases h0 : e = 0
  · exact br_t h0 (br_t h0 ⟨rfl, cv_mk R⟩)
  · by_cases hn : v1 < 0
    · exact br_f h0 (br_t hn (br_f h0 (br_t hn ⟨rfl, cv_mk R⟩)))
    · by_cases hb : v1 < 2 * (nI l + 6)
      · obtain ⟨j, hj, rfl⟩ := cv_ix (by omega) hn hb
        have hi : vp_in (nI j) 28 := vp_in_nI (by omega) (by omega)
        have hcp : (nI j).toNatClampNeg = j := nI_clamp (by omega)
        exact br_f h0 (br_f hn (br_t hb ⟨hi, br_f h0 (br_f hn (br_t hb ⟨hi, by rw [hcp]; exact (hx h0 j hj).1.symm, cv_mk R⟩))⟩))
      · exact br_f h0 (br_f hn (br_f hb (br_f h0 (br_f hn (br_f hb ⟨rfl, cv_mk R⟩)))))
theorem i_vc_recv {k : Nat} {u : SX} {v : SY} (I : i_Rel k u v) (hk : k + 2 ≤ 1025) (v1 : Int32) : wpX_recv (fun r => wpY_recv (fun r' => r' = r ∧ i_Rel (k + 2) u v) v v1) u v1 := by
  obtain ⟨c, l, e, d, dm, am, atx, arx, bm, bd, btx, brx, rfl, rfl, h⟩ := I
  obtain ⟨hc, hl, he, hel, hde, hm, hx, hd⟩ := h
  have R : cv_R c l e d dm am atx arx bm bd btx brx := ⟨hc, hl, he, hel, hde, hm, hx, hd⟩
  by_cases h0 : e = 0
  · exact br_t h0 (br_t h0 ⟨rfl, cv_mk R⟩)
  · by_cases hn : v1 < 0
    · exact br_f h0 (br_t hn (br_f h0 (br_t hn ⟨rfl, cv_mk R⟩)))
    · by_cases hb : v1 < 2 * (nI l + 6)
      · obtain ⟨j, hj, rfl⟩ := cv_ix (by omega) hn hb
        have hi : vp_in (nI j) 28 := vp_in_nI (by omega) (by omega)
        have hcp : (nI j).toNatClampNeg = j := nI_clamp (by omega)
        exact br_f h0 (br_f hn (br_t hb ⟨hi, br_f h0 (br_f hn (br_t hb ⟨hi, by rw [hcp]; exact (hx h0 j hj).2.symm, cv_mk R⟩))⟩))
      · exact br_f h0 (br_f hn (br_f hb (br_f h0 (br_f hn (br_f hb ⟨rfl, cv_mk R⟩)))))
theorem cv_res43 {post : SX → Prop} {f_cap f_len f_enc f_dec f_decodedMsg : Int32} {a_msg a_tx a_rx : Nat → Int32} (h : ∀ tx rx : Nat → Int32, post (f_cap, f_len, f_enc, f_dec, f_decodedMsg, a_msg, tx, rx)) : ∃ n, wX_reset_43 post f_cap f_len f_enc f_dec f_decodedMsg n (nI 0) a_msg a_tx a_rx := by
  refine loop_0 (fun n p (s : (Nat → Int32) × (Nat → Int32)) => wX_reset_43 post f_cap f_len f_enc f_dec f_decodedMsg n (nI p) a_msg s.1 s.2) (fun _ _ => True) 28 (a_tx, a_rx) trivial ?_ ?_
  · intro n s _
    exact br_t (nI_le (a := 28) (Nat.le_refl 28) (by omega)) (h s.1 s.2)
  · intro n p s hp _ ih
    have hi : vp_in (nI p) 28 := vp_in_nI hp (by omega)
    refine br_f (nI_ge (b := 28) hp (by omega)) ⟨hi, nm_e ⟨hi, nm_e (nm_r (nI_1 p) ?_)⟩⟩
    exact ih (upd s.1 (nI p).toNatClampNeg 0, upd s.2 (nI p).toNatClampNeg 0) trivial
theorem cv_res22 {post : SX → Prop} {f_cap f_len f_enc f_dec f_decodedMsg : Int32} {a_msg a_tx a_rx : Nat → Int32} (h : ∀ ms tx rx : Nat → Int32, post (f_cap, f_len, f_enc, f_dec, f_decodedMsg, ms, tx, rx)) : ∃ n, wX_reset_22 post f_cap f_len f_enc f_dec f_decodedMsg n (nI 0) a_msg a_tx a_rx := by
  refine loop_0 (fun n p (s : Nat → Int32) => wX_reset_22 post f_cap f_len f_enc f_dec f_decodedMsg n (nI p) s a_tx a_rx) (fun _ _ => True) 8 a_msg trivial ?_ ?_
  · intro n s _
    exact br_t (nI_le (a := 8) (Nat.le_refl 8) (by omega)) (cv_res43 (h s))
  · intro n p s hp _ ih
    have hi : vp_in (nI p) 8 := vp_in_nI hp (by omega)
    refine br_f (nI_ge (b := 8) hp (by omega)) ⟨hi, nm_e (nm_r (nI_1 p) ?_)⟩
    exact ih (upd s (nI p).toNatClampNeg 0) trivial
theorem i_vc_reset {k : Nat} {u : SX} {v : SY} (I : i_Rel k u v) (hk : k + 2 ≤ 1025) : wpX_reset (fun u' => wpY_reset (fun v' => i_Rel (k + 2) u' v') v) u := by
  obtain ⟨c, l, e, d, dm, am, atx, arx, bm, bd, btx, brx, rfl, rfl, h⟩ := I
  unfold wpX_reset
  exact cv_res22 (fun ms tx rx => cv_mk (k := k + 2) (c := c) (l := 0) (cv_R0 h.1))
end
