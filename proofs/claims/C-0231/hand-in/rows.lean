section
/-! rows of the kit (to paste) -/
theorem pk_us {f : Nat → Int32} {k : Nat} {x : Int32} : upd f k x k = x := if_pos rfl
theorem pk_un {f : Nat → Int32} {k j : Nat} {x : Int32} (h : j ≠ k) : upd f k x j = f j := if_neg h
theorem pk_sub {a b : Nat} (h : b ≤ a) : nI a - nI b = nI (a - b) := by
  obtain ⟨c, rfl⟩ : ∃ c, a = c + b := ⟨a - b, by omega⟩
  rw [← nI_add, Int32.add_sub_cancel, Nat.add_sub_cancel]
theorem pk_m1 (n : Nat) : nI (n + 1) + (-1) = nI n := by
  rw [← nI_1, Int32.add_assoc, show (1 : Int32) + (-1) = 0 from rfl, Int32.add_zero]
theorem pk_mul (a b : Nat) : nI a * nI b = nI (a * b) := (Int32.ofNat_mul a b).symm
theorem pk_div {a d : Nat} (ha : a < 2 ^ 31) (h0 : 0 < d) (hd : d < 2 ^ 31) : nI a / nI d = nI (a / d) := by
  apply Int32.toInt_inj.mp
  rw [lg_idiv_nonneg (by rw [nI_toInt ha]; omega) (by rw [nI_toInt hd]; omega), nI_toInt ha, nI_toInt hd, nI_toInt (Nat.lt_of_le_of_lt (Nat.div_le_self a d) ha)]
  first | rfl | exact (Int.natCast_ediv _ _).symm
theorem pk_ix (x : Int32) {n : Nat} (hn : n < 2 ^ 31) : x < 0 ∨ nI n ≤ x ∨ ∃ j : Nat, j < n ∧ x = nI j := by
  by_cases h : x < 0
  · exact Or.inl h
  · obtain ⟨j, hj, rfl⟩ := nI_of h
    by_cases h2 : j < n
    · exact Or.inr (Or.inr ⟨j, h2, rfl⟩)
    · exact Or.inr (Or.inl (nI_le (by omega) hj))
theorem pk_le {x y : Int32} {A B : Prop} (a b : Nat) (f : a ≤ b → A) (g : b < a → B) (hx : x = nI a := by rfl) (hy : y = nI b := by rfl) (ha : a < 2 ^ 31 := by omega) (hb : b < 2 ^ 31 := by omega) : (x ≤ y → A) ∧ (¬ x ≤ y → B) := by
  subst hx hy
  rw [nI_leI ha hb]
  exact ⟨f, fun z => g (by omega)⟩
theorem pk_lt {x y : Int32} {A B : Prop} (a b : Nat) (f : a < b → A) (g : b ≤ a → B) (hx : x = nI a := by rfl) (hy : y = nI b := by rfl) (ha : a < 2 ^ 31 := by omega) (hb : b < 2 ^ 31 := by omega) : (x < y → A) ∧ (¬ x < y → B) := by
  subst hx hy
  rw [nI_ltI ha hb]
  exact ⟨f, fun z => g (by omega)⟩
theorem pk_eq {x y : Int32} {A B : Prop} (a b : Nat) (f : a = b → A) (g : a ≠ b → B) (hx : x = nI a := by rfl) (hy : y = nI b := by rfl) (ha : a < 2 ^ 31 := by omega) (hb : b < 2 ^ 31 := by omega) : (x = y → A) ∧ (¬ x = y → B) := by
  subst hx hy
  rw [nI_eq ha hb]
  exact ⟨f, g⟩
theorem pk_in {x : Int32} (n N : Nat) (h : n < N) (hx : x = nI n := by rfl) (hN : N < 2 ^ 31 := by omega) : vp_in x N := by
  subst hx
  exact vp_in_nI h hN
theorem pk_cl {x : Int32} (n : Nat) (hx : x = nI n := by rfl) (h : n < 2 ^ 31 := by omega) : x.toNatClampNeg = n := by
  subst hx
  exact nI_clamp h
theorem pk_tn {n : Nat} (h : n < 2 ^ 32) : (nI n).toBitVec.toNat = n := Nat.mod_eq_of_lt h
theorem pk_shl (a s : Int32) (k : Nat) (hs : (s.toBitVec.smod 32).toNat = k) : (a <<< s).toBitVec.toNat = a.toBitVec.toNat * 2 ^ k % 2 ^ 32 := by
  show (a.toBitVec <<< (s.toBitVec.smod 32).toNat).toNat = _
  rw [hs, BitVec.toNat_shiftLeft, Nat.shiftLeft_eq]
theorem pk_shlN {n : Nat} (s : Int32) (k : Nat) (hs : (s.toBitVec.smod 32).toNat = k) (h : n * 2 ^ k < 2 ^ 32) : nI n <<< s = nI (n * 2 ^ k) := by
  apply Int32.toBitVec_inj.mp
  apply BitVec.eq_of_toNat_eq
  have hn : n < 2 ^ 32 := Nat.lt_of_le_of_lt (Nat.le_mul_of_pos_right n (Nat.two_pow_pos k)) h
  rw [pk_shl _ _ k hs, pk_tn hn, pk_tn h, Nat.mod_eq_of_lt h]
theorem pk_shr (a s : Int32) (k : Nat) (hs : (s.toBitVec.smod 32).toNat = k) : (a >>> s).toInt = a.toInt >>> k := by
  show (a.toBitVec.sshiftRight (s.toBitVec.smod 32).toNat).toInt = _
  rw [hs, BitVec.toInt_sshiftRight]
  rfl
theorem pk_shrN {n : Nat} (h : n < 2 ^ 31) (s : Int32) (k : Nat) (hs : (s.toBitVec.smod 32).toNat = k) : nI n >>> s = nI (n / 2 ^ k) := by
  apply Int32.toInt_inj.mp
  have h2 : n / 2 ^ k ≤ n := Nat.div_le_self _ _
  rw [pk_shr _ _ k hs, nI_toInt h, nI_toInt (by omega), Int.shiftRight_eq_div_pow]
  rfl
theorem pk_least (P : Nat → Prop) (h : ∃ k, P k) : ∃ k, P k ∧ ∀ j, j < k → ¬ P j := by
  obtain ⟨k, hk⟩ := h
  induction k using Nat.strongRecOn with
  | ind k ih =>
    by_cases e : ∃ j, j < k ∧ P j
    · obtain ⟨j, hj, pj⟩ := e
      exact ih j hj pj
    · exact ⟨k, hk, fun j hj pj => e ⟨j, hj, pj⟩⟩
theorem s_l : ∀ n, n < 32 → ((nI n &&& 31).toBitVec.smod 32).toNat = n := by decide +kernel
end
section
/-! the pure picture: naturals; 0 for NONE, n + 1 for n where an array may hold NONE -/
def cf_u (f : Nat → Nat) (k x : Nat) : Nat → Nat := fun j => if j = k then x else f j
def cf_n (f : Nat → Nat) : Nat → Int32 := fun j => nI (f j)
def cf_I (n : Nat) : Int32 := match n with
  | 0 => -1
  | m + 1 => nI m
def cf_e (f : Nat → Nat) : Nat → Int32 := fun j => cf_I (f j)
theorem cf_us {f : Nat → Nat} {k x : Nat} : cf_u f k x k = x := if_pos rfl
theorem cf_uo {f : Nat → Nat} {k x j : Nat} (h : j ≠ k) : cf_u f k x j = f j := if_neg h
theorem cf_uself {f : Nat → Nat} {k x : Nat} (h : f k = x) : cf_u f k x = f := by
  funext j
  unfold cf_u
  by_cases e : j = k
  · rw [if_pos e, e, h]
  · rw [if_neg e]
theorem cf_uu {f : Nat → Nat} {k x y : Nat} : cf_u (cf_u f k x) k y = cf_u f k y := by
  funext j
  unfold cf_u
  by_cases e : j = k
  · rw [if_pos e, if_pos e]
  · rw [if_neg e, if_neg e, if_neg e]
theorem cf_ucomm {f : Nat → Nat} {k l x y : Nat} (h : k ≠ l) : cf_u (cf_u f k x) l y = cf_u (cf_u f l y) k x := by
  funext j
  unfold cf_u
  by_cases e : j = k
  · by_cases e2 : j = l
    · exact absurd (e.symm.trans e2) h
    · rw [if_neg e2, if_pos e, if_pos e]
  · by_cases e2 : j = l
    · rw [if_pos e2, if_neg e, if_pos e2]
    · rw [if_neg e2, if_neg e, if_neg e, if_neg e2]
/-- how many j below n have f j = v -/
def cf_q (f : Nat → Nat) (v : Nat) : Nat → Nat
  | 0 => 0
  | n + 1 => cf_q f v n + (if f n = v then 1 else 0)
theorem cf_q_le (f : Nat → Nat) (v : Nat) : ∀ n, cf_q f v n ≤ n
  | 0 => Nat.le_refl 0
  | n + 1 => by
    have := cf_q_le f v n
    show cf_q f v n + (if f n = v then 1 else 0) ≤ n + 1
    split <;> omega
theorem cf_q_congr {f g : Nat → Nat} (v : Nat) : ∀ n, (∀ j, j < n → f j = g j) → cf_q f v n = cf_q g v n
  | 0, _ => rfl
  | n + 1, h => by
    show cf_q f v n + (if f n = v then 1 else 0) = cf_q g v n + (if g n = v then 1 else 0)
    rw [cf_q_congr v n (fun j hj => h j (by omega)), h n (by omega)]
theorem cf_q_far {f : Nat → Nat} {k x : Nat} (v n : Nat) (h : n ≤ k) : cf_q (cf_u f k x) v n = cf_q f v n :=
  cf_q_congr v n fun j hj => cf_uo (by omega)
theorem cf_q_upd {f : Nat → Nat} {k x : Nat} (v : Nat) : ∀ n, k < n → cf_q (cf_u f k x) v n + (if f k = v then 1 else 0) = cf_q f v n + (if x = v then 1 else 0)
  | 0, h => by omega
  | n + 1, h => by
    show cf_q (cf_u f k x) v n + (if cf_u f k x n = v then 1 else 0) + _ = cf_q f v n + (if f n = v then 1 else 0) + _
    by_cases e : k = n
    · subst e
      rw [cf_q_far v k (Nat.le_refl k), cf_us]
      omega
    · have := cf_q_upd (f := f) (k := k) (x := x) v n (by omega)
      rw [cf_uo (Ne.symm e)]
      omega
theorem cf_q_ex {f : Nat → Nat} {v : Nat} : ∀ n, 0 < cf_q f v n → ∃ j, j < n ∧ f j = v
  | 0, h => absurd h (Nat.lt_irrefl 0)
  | n + 1, h => by
    by_cases e : f n = v
    · exact ⟨n, by omega, e⟩
    · have h2 : 0 < cf_q f v n := by
        have h3 : 0 < cf_q f v n + (if f n = v then 1 else 0) := h
        rw [if_neg e] at h3
        exact h3
      obtain ⟨j, hj, ej⟩ := cf_q_ex n h2
      exact ⟨j, by omega, ej⟩
theorem cf_q_pos {f : Nat → Nat} {v j : Nat} (e : f j = v) : ∀ n, j < n → 0 < cf_q f v n
  | 0, h => by omega
  | n + 1, h => by
    show 0 < cf_q f v n + (if f n = v then 1 else 0)
    by_cases ej : j = n
    · rw [← ej, if_pos e]; omega
    · have := cf_q_pos (f := f) e n (by omega)
      omega
theorem cf_q_all {f : Nat → Nat} {v : Nat} : ∀ n, cf_q f v n = n → ∀ j, j < n → f j = v
  | 0, _, j, hj => by omega
  | n + 1, h, j, hj => by
    have h3 : cf_q f v n + (if f n = v then 1 else 0) = n + 1 := h
    have h4 := cf_q_le f v n
    by_cases e : f n = v
    · rw [if_pos e] at h3
      by_cases ej : j = n
      · rw [ej]; exact e
      · exact cf_q_all n (by omega) j (by omega)
    · rw [if_neg e] at h3
      omega
theorem cf_q_const {f : Nat → Nat} {v : Nat} : ∀ n, (∀ j, j < n → f j = v) → cf_q f v n = n
  | 0, _ => rfl
  | n + 1, h => by
    show cf_q f v n + (if f n = v then 1 else 0) = n + 1
    rw [cf_q_const n (fun j hj => h j (by omega)), if_pos (h n (by omega))]
theorem cf_q_zero {f : Nat → Nat} {v : Nat} : ∀ n, (∀ j, j < n → f j ≠ v) → cf_q f v n = 0
  | 0, _ => rfl
  | n + 1, h => by
    show cf_q f v n + (if f n = v then 1 else 0) = 0
    rw [cf_q_zero n (fun j hj => h j (by omega)), if_neg (h n (by omega))]
theorem cf_q_split {f : Nat → Nat} {v : Nat} {m : Nat} (h1 : ∀ j, j < m → f j ≠ v) : ∀ n, m ≤ n → (∀ j, m ≤ j → j < n → f j = v) → cf_q f v n + m = n
  | 0, hm, _ => by
    have : m = 0 := by omega
    subst this; rfl
  | n + 1, hm, h => by
    by_cases e : m = n + 1
    · subst e
      rw [cf_q_zero _ h1]; omega
    · show cf_q f v n + (if f n = v then 1 else 0) + m = n + 1
      rw [if_pos (h n (by omega) (by omega))]
      have := cf_q_split h1 n (by omega) (fun j a b => h j a (by omega))
      omega
theorem cf_q_lt {f : Nat → Nat} {v n : Nat} (h : cf_q f v n < n) : ∃ j, j < n ∧ f j ≠ v := by
  refine Classical.byContradiction fun hn => ?_
  have := cf_q_const (f := f) (v := v) n (fun j hj => Classical.byContradiction fun e => hn ⟨j, hj, e⟩)
  omega
/-- the places of a page of kind c -/
def cf_p (c : Nat) : Nat := 8 / 2 ^ c
/-- the kind of a size, plus 1; 0 for no object -/
def cf_l (x : Nat) : Nat := if x = 0 then 0 else if x ≤ 2 then 1 else if x ≤ 4 then 2 else if x ≤ 8 then 3 else 4
/-- the pages that so many objects of each kind need -/
def cf_nd (f : Nat → Nat) : Nat := (f 0 + 7) / 8 + (f 1 + 3) / 4 + (f 2 + 1) / 2 + f 3
theorem cf_c4 {P : Nat → Prop} (h0 : P 0) (h1 : P 1) (h2 : P 2) (h3 : P 3) : ∀ c, c < 4 → P c := by
  intro c hc
  match c, hc with
  | 0, _ => exact h0
  | 1, _ => exact h1
  | 2, _ => exact h2
  | 3, _ => exact h3
theorem cf_p0 : cf_p 0 = 8 := rfl
theorem cf_p1 : cf_p 1 = 4 := rfl
theorem cf_p2 : cf_p 2 = 2 := rfl
theorem cf_p3 : cf_p 3 = 1 := rfl
theorem cf_p_pos : ∀ c, c < 4 → 0 < cf_p c ∧ cf_p c ≤ 8 := by decide
theorem cf_l_le (x : Nat) : cf_l x ≤ 4 := by
  unfold cf_l
  repeat' split
  all_goals omega
theorem cf_l_0 (x : Nat) : cf_l x = 0 ↔ x = 0 := by
  unfold cf_l
  repeat' split
  all_goals omega
theorem cf_l_fit : ∀ x, x ≤ 16 → x ≤ 2 ^ cf_l x := by decide
theorem cf_l_u (sz : Nat → Nat) (h x : Nat) : (fun j => cf_l (cf_u sz h x j)) = cf_u (fun j => cf_l (sz j)) h (cf_l x) := by
  funext j
  unfold cf_u
  by_cases e : j = h
  · rw [if_pos e, if_pos e]
  · rw [if_neg e, if_neg e]
theorem cf_nd_inc (f : Nat → Nat) : ∀ c, c < 4 → cf_nd (cf_u f c (f c + 1)) = cf_nd f + (if f c % cf_p c = 0 then 1 else 0) := by
  refine cf_c4 ?_ ?_ ?_ ?_
  · show (f 0 + 1 + 7) / 8 + (f 1 + 3) / 4 + (f 2 + 1) / 2 + f 3 = (f 0 + 7) / 8 + (f 1 + 3) / 4 + (f 2 + 1) / 2 + f 3 + (if f 0 % 8 = 0 then 1 else 0)
    split <;> omega
  · show (f 0 + 7) / 8 + (f 1 + 1 + 3) / 4 + (f 2 + 1) / 2 + f 3 = (f 0 + 7) / 8 + (f 1 + 3) / 4 + (f 2 + 1) / 2 + f 3 + (if f 1 % 4 = 0 then 1 else 0)
    split <;> omega
  · show (f 0 + 7) / 8 + (f 1 + 3) / 4 + (f 2 + 1 + 1) / 2 + f 3 = (f 0 + 7) / 8 + (f 1 + 3) / 4 + (f 2 + 1) / 2 + f 3 + (if f 2 % 2 = 0 then 1 else 0)
    split <;> omega
  · show (f 0 + 7) / 8 + (f 1 + 3) / 4 + (f 2 + 1) / 2 + (f 3 + 1) = (f 0 + 7) / 8 + (f 1 + 3) / 4 + (f 2 + 1) / 2 + f 3 + (if f 3 % 1 = 0 then 1 else 0)
    rw [if_pos (Nat.mod_one _)]; omega
theorem cf_nd_dec (f : Nat → Nat) (c : Nat) (hc : c < 4) (h : 0 < f c) : cf_nd (cf_u f c (f c - 1)) + (if (f c - 1) % cf_p c = 0 then 1 else 0) = cf_nd f := by
  have := cf_nd_inc (cf_u f c (f c - 1)) c hc
  rw [cf_us, cf_uu, cf_uself (f := f) (by omega)] at this
  exact this.symm
theorem cf_m1 {n k : Nat} (hk : 0 < k) (h : n % k + 1 = k) : (n + 1) % k = 0 := by
  rw [← Nat.mod_add_mod, h, Nat.mod_self]
theorem cf_m2 {n k : Nat} (hk : 0 < k) (h : n % k + 1 ≠ k) : (n + 1) % k = n % k + 1 := by
  have := Nat.mod_lt n hk
  rw [← Nat.mod_add_mod, Nat.mod_eq_of_lt (by omega)]
theorem cf_slot : ∀ c, c < 4 → ∀ s, s < cf_p c → s * 2 ^ (c + 1) + 2 ^ (c + 1) ≤ 16 := by decide
theorem cf_slot_ne : ∀ c, c < 4 → ∀ s t k l : Nat, s ≠ t → k < 2 ^ (c + 1) → l < 2 ^ (c + 1) → s * 2 ^ (c + 1) + k ≠ t * 2 ^ (c + 1) + l := by
  refine cf_c4 ?_ ?_ ?_ ?_
  all_goals
    intro s t k l h hk hl
    simp only [Nat.reduceAdd, Nat.reducePow] at *
    omega
end
section
/-! what holds of the component's pages: lv h is the kind plus 1 of the object that handle h has in a page, 0 if it has none -/
def cf_A (T : Nat) (kd ow pg pl lv : Nat → Nat) : Prop := ∀ h c, h < 64 → lv h = c + 1 → c < 4 ∧ pg h < T ∧ kd (pg h) = c + 1 ∧ pl h < cf_p c ∧ ow (8 * pg h + pl h) = h + 1
def cf_B (ow pg pl lv : Nat → Nat) : Prop := ∀ p s h, p < 12 → s < 8 → ow (8 * p + s) = h + 1 → h < 64 ∧ lv h ≠ 0 ∧ pg h = p ∧ pl h = s
def cf_C (ct ow : Nat → Nat) : Prop := ∀ p, p < 12 → ct p + cf_q (fun s => ow (8 * p + s)) 0 8 = 8
def cf_D (T : Nat) (kd ct op : Nat → Nat) : Prop := ∀ p c, p < 12 → kd p = c + 1 → c < 4 ∧ p < T ∧ 1 ≤ ct p ∧ ct p ≤ cf_p c ∧ (ct p = cf_p c ∨ op c = p + 1)
def cf_E (T : Nat) (kd ct op cn : Nat → Nat) : Prop := ∀ c, c < 4 → (op c = 0 → cn c % cf_p c = 0) ∧ (∀ p, op c = p + 1 → p < T ∧ kd p = c + 1 ∧ ct p < cf_p c ∧ ct p = cn c % cf_p c)
def cf_G (cn lv : Nat → Nat) : Prop := ∀ c, c < 4 → cn c = cf_q lv (c + 1) 64
def cf_J (T F L : Nat) (kd ct ow pg pl op cn lv : Nat → Nat) : Prop :=
  (2 ≤ T ∧ T ≤ 12) ∧ cf_A T kd ow pg pl lv ∧ cf_B ow pg pl lv ∧ cf_C ct ow ∧ cf_D T kd ct op ∧ cf_E T kd ct op cn ∧ F = cf_q kd 0 T ∧ F + cf_nd cn = T ∧ cf_G cn lv ∧ L + cf_q lv 0 64 = 64
section
variable {T F L : Nat} {kd ct ow pg pl op cn lv : Nat → Nat}
theorem cf_J_T (J : cf_J T F L kd ct ow pg pl op cn lv) : 2 ≤ T ∧ T ≤ 12 := J.1
theorem cf_J_A (J : cf_J T F L kd ct ow pg pl op cn lv) : cf_A T kd ow pg pl lv := J.2.1
theorem cf_J_B (J : cf_J T F L kd ct ow pg pl op cn lv) : cf_B ow pg pl lv := J.2.2.1
theorem cf_J_C (J : cf_J T F L kd ct ow pg pl op cn lv) : cf_C ct ow := J.2.2.2.1
theorem cf_J_D (J : cf_J T F L kd ct ow pg pl op cn lv) : cf_D T kd ct op := J.2.2.2.2.1
theorem cf_J_E (J : cf_J T F L kd ct ow pg pl op cn lv) : cf_E T kd ct op cn := J.2.2.2.2.2.1
theorem cf_J_F (J : cf_J T F L kd ct ow pg pl op cn lv) : F = cf_q kd 0 T := J.2.2.2.2.2.2.1
theorem cf_J_N (J : cf_J T F L kd ct ow pg pl op cn lv) : F + cf_nd cn = T := J.2.2.2.2.2.2.2.1
theorem cf_J_G (J : cf_J T F L kd ct ow pg pl op cn lv) : cf_G cn lv := J.2.2.2.2.2.2.2.2.1
theorem cf_J_L (J : cf_J T F L kd ct ow pg pl op cn lv) : L + cf_q lv 0 64 = 64 := J.2.2.2.2.2.2.2.2.2
/-- a page that is of no kind, or a place beyond its kind, has no owner -/
theorem cf_ow0 (J : cf_J T F L kd ct ow pg pl op cn lv) {p s : Nat} (hp : p < 12) (hs : s < 8) (h : kd p = 0 ∨ ∃ c, kd p = c + 1 ∧ cf_p c ≤ s) : ow (8 * p + s) = 0 := by
  cases e : ow (8 * p + s) with
  | zero => rfl
  | succ a =>
    obtain ⟨ha, hl, hpg, hpl⟩ := cf_J_B J p s a hp hs e
    obtain ⟨c, ec⟩ : ∃ c, lv a = c + 1 := ⟨lv a - 1, by omega⟩
    obtain ⟨h1, h2, h3, h4, h5⟩ := cf_J_A J a c ha ec
    rw [hpg] at h3
    rw [hpl] at h4
    rcases h with h | ⟨d, hd, hd2⟩
    · omega
    · have : d = c := by omega
      subst this
      omega
theorem cf_ct0 (J : cf_J T F L kd ct ow pg pl op cn lv) {p : Nat} (hp : p < 12) (h : kd p = 0) : ct p = 0 := by
  have h1 := cf_J_C J p hp
  have h2 := cf_q_const (f := fun s => ow (8 * p + s)) (v := 0) 8 (fun s hs => cf_ow0 J hp hs (Or.inl h))
  omega
/-- a page of kind c with room has a free place -/
theorem cf_free (J : cf_J T F L kd ct ow pg pl op cn lv) {p c : Nat} (hp : p < 12) (hc : c < 4) (hk : kd p = 0 ∨ kd p = c + 1) (h : ct p < cf_p c) : ∃ s, s < cf_p c ∧ ow (8 * p + s) = 0 := by
  refine Classical.byContradiction fun hn => ?_
  have hp8 := (cf_p_pos c hc).2
  have h2 := cf_q_split (f := fun s => ow (8 * p + s)) (v := 0) (m := cf_p c) (fun s hs e => hn ⟨s, hs, e⟩) 8 hp8
    (fun s h1 h2 => cf_ow0 J hp h2 (hk.elim Or.inl fun e => Or.inr ⟨c, e, h1⟩))
  have h1 := cf_J_C J p hp
  omega
theorem cf_row {p s x : Nat} (hs : s < 8) (p' : Nat) : cf_q (fun t => cf_u ow (8 * p + s) x (8 * p' + t)) 0 8 = if p' = p then cf_q (cf_u (fun t => ow (8 * p + t)) s x) 0 8 else cf_q (fun t => ow (8 * p' + t)) 0 8 := by
  by_cases e : p' = p
  · subst e
    rw [if_pos rfl]
    refine cf_q_congr 0 8 fun t ht => ?_
    by_cases e2 : t = s
    · subst e2; rw [cf_us, cf_us]
    · rw [cf_uo e2, cf_uo (by omega)]
  · rw [if_neg e]
    refine cf_q_congr 0 8 fun t ht => ?_
    exact cf_uo (by omega)
/-- what the unfilled page of a kind, or a new one, says of the kind's count -/
theorem cf_pl_fact (J : cf_J T F L kd ct ow pg pl op cn lv) {c p F' : Nat} (hc : c < 4) (hp : p < T)
    (hf : (op c = p + 1 ∧ F' = F) ∨ (op c = 0 ∧ kd p = 0 ∧ F' + 1 = F)) : ct p = cn c % cf_p c ∧ ct p < cf_p c ∧ (kd p = 0 ∨ kd p = c + 1) ∧ (op c = 0 ∨ op c = p + 1) ∧ (kd p = 0 → op c = 0 ∧ F' + 1 = F ∧ cn c % cf_p c = 0) ∧ (kd p ≠ 0 → F' = F ∧ cn c % cf_p c ≠ 0) := by
  have hT := cf_J_T J
  have hE := cf_J_E J c hc
  have hpp := (cf_p_pos c hc).1
  rcases hf with ⟨ho, hF⟩ | ⟨ho, hk, hF⟩
  · obtain ⟨e1, e2, e3, e4⟩ := hE.2 p ho
    have hD := cf_J_D J p c (by omega) e2
    exact ⟨e4, e3, Or.inr e2, Or.inr ho, fun z => by omega, fun _ => ⟨hF, by omega⟩⟩
  · have h0 := cf_ct0 J (by omega) hk
    have h1 := hE.1 ho
    exact ⟨by omega, by omega, Or.inl hk, Or.inl ho, fun _ => ⟨ho, hF, h1⟩, fun z => absurd hk z⟩
theorem cf_place (J : cf_J T F L kd ct ow pg pl op cn lv) {h c p s F' : Nat} (hh : h < 64) (hc : c < 4) (hl : lv h = 0) (hp : p < T) (hs : s < cf_p c) (ho : ow (8 * p + s) = 0)
    (hf : (op c = p + 1 ∧ F' = F) ∨ (op c = 0 ∧ kd p = 0 ∧ F' + 1 = F)) :
    cf_J T F' (L + 1) (cf_u kd p (c + 1)) (cf_u ct p (ct p + 1)) (cf_u ow (8 * p + s) (h + 1)) (cf_u pg h p) (cf_u pl h s) (cf_u op c (if ct p + 1 = cf_p c then 0 else p + 1)) (cf_u cn c (cn c + 1)) (cf_u lv h (c + 1)) := by
  obtain ⟨k1, k2, k3, k4, k5, k6⟩ := cf_pl_fact J hc hp hf
  have hT := cf_J_T J
  have hpp := cf_p_pos c hc
  have hs8 : s < 8 := by omega
  refine ⟨hT, ?_, ?_, ?_, ?_, ?_, ?_, ?_, ?_, ?_⟩
  · intro a d ha hd
    by_cases e : a = h
    · subst e
      rw [cf_us] at hd
      have : d = c := by omega
      subst this
      rw [cf_us, cf_us, cf_us, cf_us]
      exact ⟨hc, hp, rfl, hs, rfl⟩
    · rw [cf_uo e] at hd
      obtain ⟨h1, h2, h3, h4, h5⟩ := cf_J_A J a d ha hd
      rw [cf_uo e, cf_uo e]
      refine ⟨h1, h2, ?_, h4, ?_⟩
      · by_cases e2 : pg a = p
        · rw [e2] at h3
          rw [e2, cf_us]
          omega
        · rw [cf_uo e2]; exact h3
      · rw [cf_uo ?_]
        · exact h5
        · intro z
          rw [z, ho] at h5
          omega
  · intro p' s' a hp' hs' ha
    by_cases e : 8 * p' + s' = 8 * p + s
    · rw [e, cf_us] at ha
      have : a = h := by omega
      subst this
      rw [cf_us, cf_us, cf_us]
      exact ⟨hh, by omega, by omega, by omega⟩
    · rw [cf_uo e] at ha
      obtain ⟨h1, h2, h3, h4⟩ := cf_J_B J p' s' a hp' hs' ha
      have e2 : a ≠ h := fun z => h2 (z ▸ hl)
      rw [cf_uo e2, cf_uo e2, cf_uo e2]
      exact ⟨h1, h2, h3, h4⟩
  · intro p' hp'
    rw [cf_row hs8 p']
    have h1 := cf_J_C J p' hp'
    by_cases e : p' = p
    · subst e
      rw [if_pos rfl, cf_us]
      have h2 := cf_q_upd (f := fun t => ow (8 * p' + t)) (k := s) (x := h + 1) 0 8 hs8
      rw [if_pos ho, if_neg (by omega)] at h2
      omega
    · rw [if_neg e, cf_uo e]; exact h1
  · intro p' d hp' hd
    by_cases e : p' = p
    · subst e
      rw [cf_us] at hd
      have : d = c := by omega
      subst this
      rw [cf_us, cf_us]
      refine ⟨hc, hp, by omega, by omega, ?_⟩
      by_cases e2 : ct p' + 1 = cf_p d
      · exact Or.inl e2
      · rw [if_neg e2]; exact Or.inr rfl
    · rw [cf_uo e] at hd
      obtain ⟨h1, h2, h3, h4, h5⟩ := cf_J_D J p' d hp' hd
      rw [cf_uo e]
      refine ⟨h1, h2, h3, h4, ?_⟩
      by_cases e2 : d = c
      · subst e2
        rcases h5 with h5 | h5
        · exact Or.inl h5
        · omega
      · rw [cf_uo e2]; exact h5
  · intro d hd
    by_cases e : d = c
    · subst e
      rw [cf_us, cf_us]
      by_cases e2 : ct p + 1 = cf_p d
      · rw [if_pos e2]
        exact ⟨fun _ => cf_m1 hpp.1 (by omega), fun p' z => by omega⟩
      · rw [if_neg e2]
        refine ⟨fun z => by omega, fun p' z => ?_⟩
        have : p' = p := by omega
        subst this
        rw [cf_us, cf_us, cf_m2 hpp.1 (by omega)]
        exact ⟨hp, rfl, by omega, by omega⟩
    · rw [cf_uo e, cf_uo e]
      obtain ⟨h1, h2⟩ := cf_J_E J d hd
      refine ⟨h1, fun p' z => ?_⟩
      obtain ⟨g1, g2, g3, g4⟩ := h2 p' z
      have e3 : p' ≠ p := by
        intro y
        subst y
        omega
      rw [cf_uo e3, cf_uo e3]
      exact ⟨g1, g2, g3, g4⟩
  · have h1 := cf_J_F J
    have h2 := cf_q_upd (f := kd) (k := p) (x := c + 1) 0 T hp
    rw [if_neg (show ¬ c + 1 = 0 by omega)] at h2
    by_cases e : kd p = 0
    · rw [if_pos e] at h2
      have := (k5 e).2.1
      omega
    · rw [if_neg e] at h2
      have := (k6 e).1
      omega
  · have h1 := cf_J_N J
    rw [cf_nd_inc cn c hc]
    by_cases e : kd p = 0
    · obtain ⟨g1, g2, g3⟩ := k5 e
      rw [if_pos g3]; omega
    · obtain ⟨g1, g2⟩ := k6 e
      rw [if_neg g2]; omega
  · intro d hd
    have h1 := cf_J_G J d hd
    have h2 := cf_q_upd (f := lv) (k := h) (x := c + 1) (d + 1) 64 hh
    rw [hl, if_neg (show ¬ 0 = d + 1 by omega)] at h2
    by_cases e : d = c
    · subst e
      rw [if_pos rfl] at h2
      rw [cf_us]; omega
    · rw [if_neg (show ¬ c + 1 = d + 1 by omega)] at h2
      rw [cf_uo e]; omega
  · have h1 := cf_J_L J
    have h2 := cf_q_upd (f := lv) (k := h) (x := c + 1) 0 64 hh
    rw [if_pos hl, if_neg (show ¬ c + 1 = 0 by omega)] at h2
    omega
theorem cf_cn_pos (J : cf_J T F L kd ct ow pg pl op cn lv) {h c : Nat} (hh : h < 64) (hc : c < 4) (hl : lv h = c + 1) : 0 < cn c := by
  rw [cf_J_G J c hc]
  exact cf_q_pos hl 64 hh
/-- an object is taken out of the unfilled page of its kind, or out of a page of a kind all of whose pages are full -/
theorem cf_remove (J : cf_J T F L kd ct ow pg pl op cn lv) {h c : Nat} (hh : h < 64) (hl : lv h = c + 1) (ho : op c = 0 ∨ op c = pg h + 1) {F' : Nat} {kd' op' : Nat → Nat}
    (h0 : ct (pg h) = 1 → F' = F + 1 ∧ kd' = cf_u kd (pg h) 0 ∧ op' = cf_u op c 0) (h1 : ct (pg h) ≠ 1 → F' = F ∧ kd' = kd ∧ op' = cf_u op c (pg h + 1)) :
    cf_J T F' (L - 1) kd' (cf_u ct (pg h) (ct (pg h) - 1)) (cf_u ow (8 * pg h + pl h) 0) pg pl op' (cf_u cn c (cn c - 1)) (cf_u lv h 0) := by
  obtain ⟨hc, hp, hk, hs, hw⟩ := cf_J_A J h c hh hl
  have hT := cf_J_T J
  have hpp := cf_p_pos c hc
  have hs8 : pl h < 8 := by omega
  have hpos := cf_cn_pos J hh hc hl
  obtain ⟨-, -, d1, d2, d3⟩ := cf_J_D J (pg h) c (by omega) hk
  obtain ⟨e1, e2⟩ := cf_J_E J c hc
  have hm : (cn c - 1) % cf_p c = ct (pg h) - 1 := by
    obtain ⟨m, hm⟩ : ∃ m, cn c = m + 1 := ⟨cn c - 1, by omega⟩
    rw [hm] at e1 e2
    rw [hm, Nat.add_sub_cancel]
    have g1 := cf_m1 (n := m) (k := cf_p c) hpp.1
    have g2 := cf_m2 (n := m) (k := cf_p c) hpp.1
    have g3 := Nat.mod_lt m hpp.1
    rcases ho with ho | ho
    · have := e1 ho
      by_cases g : m % cf_p c + 1 = cf_p c
      · omega
      · have := g2 g
        omega
    · have := (e2 _ ho).2.2
      by_cases g : m % cf_p c + 1 = cf_p c
      · have := g1 g
        omega
      · have := g2 g
        omega
  have kne : ∀ a, a < 64 → a ≠ h → lv a ≠ 0 → 8 * pg a + pl a ≠ 8 * pg h + pl h := by
    intro a ha e2 e3 z
    have := (cf_J_A J a (lv a - 1) ha (by omega)).2.2.2.2
    rw [z, hw] at this
    omega
  refine ⟨hT, ?_, ?_, ?_, ?_, ?_, ?_, ?_, ?_, ?_⟩
  · intro a d ha hd
    by_cases e : a = h
    · subst e
      rw [cf_us] at hd
      omega
    · rw [cf_uo e] at hd
      obtain ⟨g1, g2, g3, g4, g5⟩ := cf_J_A J a d ha hd
      have kn := kne a ha e (by omega)
      refine ⟨g1, g2, ?_, g4, ?_⟩
      · by_cases e1 : ct (pg h) = 1
        · rw [(h0 e1).2.1]
          rw [cf_uo ?_]
          · exact g3
          · intro z
            -- the page has but one object
            have q1 := cf_J_C J (pg h) (by omega)
            have q2 := cf_q_upd (f := fun t => ow (8 * pg h + t)) (k := pl h) (x := 0) 0 8 hs8
            rw [if_neg (show ¬ ow (8 * pg h + pl h) = 0 by omega), if_pos rfl] at q2
            have q3 := cf_q_all (f := cf_u (fun t => ow (8 * pg h + t)) (pl h) 0) (v := 0) 8 (by omega) (pl a) (by have := cf_p_pos d g1; omega)
            rw [cf_uo (fun y => kn (by rw [z, y]))] at q3
            rw [z] at g5
            omega
        · rw [(h1 e1).2.1]; exact g3
      · rw [cf_uo kn]; exact g5
  · intro p' s' a hp' hs' ha
    by_cases e : 8 * p' + s' = 8 * pg h + pl h
    · rw [e, cf_us] at ha
      omega
    · rw [cf_uo e] at ha
      obtain ⟨g1, g2, g3, g4⟩ := cf_J_B J p' s' a hp' hs' ha
      have e2 : a ≠ h := by
        intro z
        subst z
        exact e (by rw [g3, g4])
      rw [cf_uo e2]
      exact ⟨g1, g2, g3, g4⟩
  · intro p' hp'
    rw [cf_row hs8 p']
    have g1 := cf_J_C J p' hp'
    by_cases e : p' = pg h
    · subst e
      rw [if_pos rfl, cf_us]
      have g2 := cf_q_upd (f := fun t => ow (8 * pg h + t)) (k := pl h) (x := 0) 0 8 hs8
      rw [if_neg (show ¬ ow (8 * pg h + pl h) = 0 by omega), if_pos rfl] at g2
      omega
    · rw [if_neg e, cf_uo e]; exact g1
  · intro p' d hp' hd
    by_cases e1 : ct (pg h) = 1
    · obtain ⟨i1, i2, i3⟩ := h0 e1
      rw [i2] at hd
      by_cases e : p' = pg h
      · rw [e, cf_us] at hd; omega
      · rw [cf_uo e] at hd
        obtain ⟨g1, g2, g3, g4, g5⟩ := cf_J_D J p' d hp' hd
        rw [cf_uo e, i3]
        refine ⟨g1, g2, g3, g4, ?_⟩
        by_cases e3 : d = c
        · subst e3
          rcases g5 with g5 | g5
          · exact Or.inl g5
          · omega
        · rw [cf_uo e3]; exact g5
    · obtain ⟨i1, i2, i3⟩ := h1 e1
      rw [i2] at hd
      rw [i3]
      obtain ⟨g1, g2, g3, g4, g5⟩ := cf_J_D J p' d hp' hd
      by_cases e : p' = pg h
      · subst e
        have : d = c := by omega
        subst this
        rw [cf_us, cf_us]
        exact ⟨g1, g2, by omega, by omega, Or.inr rfl⟩
      · rw [cf_uo e]
        refine ⟨g1, g2, g3, g4, ?_⟩
        by_cases e3 : d = c
        · subst e3
          rcases g5 with g5 | g5
          · exact Or.inl g5
          · omega
        · rw [cf_uo e3]; exact g5
  · intro d hd
    by_cases e : d = c
    · subst e
      rw [cf_us]
      by_cases e3 : ct (pg h) = 1
      · obtain ⟨i1, i2, i3⟩ := h0 e3
        rw [i3, cf_us]
        exact ⟨fun _ => by omega, fun p' z => by omega⟩
      · obtain ⟨i1, i2, i3⟩ := h1 e3
        rw [i3, cf_us, i2]
        refine ⟨fun z => by omega, fun p' z => ?_⟩
        have : p' = pg h := by omega
        subst this
        rw [cf_us]
        exact ⟨hp, hk, by omega, by omega⟩
    · obtain ⟨g1, g2⟩ := cf_J_E J d hd
      have eo : op' d = op d := by
        by_cases e3 : ct (pg h) = 1
        · rw [(h0 e3).2.2, cf_uo e]
        · rw [(h1 e3).2.2, cf_uo e]
      rw [cf_uo e, eo]
      refine ⟨g1, fun p' z => ?_⟩
      obtain ⟨f1, f2, f3, f4⟩ := g2 p' z
      have e4 : p' ≠ pg h := by
        intro y
        subst y
        omega
      rw [cf_uo e4]
      refine ⟨f1, ?_, f3, f4⟩
      by_cases e3 : ct (pg h) = 1
      · rw [(h0 e3).2.1, cf_uo e4]; exact f2
      · rw [(h1 e3).2.1]; exact f2
  · have g1 := cf_J_F J
    by_cases e3 : ct (pg h) = 1
    · obtain ⟨i1, i2, i3⟩ := h0 e3
      have g2 := cf_q_upd (f := kd) (k := pg h) (x := 0) 0 T hp
      rw [if_neg (show ¬ kd (pg h) = 0 by omega), if_pos rfl] at g2
      rw [i1, i2]; omega
    · obtain ⟨i1, i2, i3⟩ := h1 e3
      rw [i1, i2]; exact g1
  · have g1 := cf_J_N J
    have g2 := cf_nd_dec cn c hc hpos
    rw [hm] at g2
    by_cases e3 : ct (pg h) = 1
    · rw [if_pos (by omega)] at g2
      have := (h0 e3).1
      omega
    · rw [if_neg (by omega)] at g2
      have := (h1 e3).1
      omega
  · intro d hd
    have g1 := cf_J_G J d hd
    have g2 := cf_q_upd (f := lv) (k := h) (x := 0) (d + 1) 64 hh
    rw [hl, if_neg (show ¬ 0 = d + 1 by omega)] at g2
    by_cases e : d = c
    · subst e
      rw [if_pos rfl] at g2
      rw [cf_us]; omega
    · rw [if_neg (show ¬ c + 1 = d + 1 by omega)] at g2
      rw [cf_uo e]; omega
  · have g1 := cf_J_L J
    have g2 := cf_q_upd (f := lv) (k := h) (x := 0) 0 64 hh
    have g3 := cf_q_le (cf_u lv h 0) 0 64
    rw [if_neg (show ¬ lv h = 0 by omega), if_pos rfl] at g2
    omega
/-- two objects change places -/
theorem cf_swap (J : cf_J T F L kd ct ow pg pl op cn lv) {a b : Nat} (ha : a < 64) (hb : b < 64) (hab : a ≠ b) (la : lv a ≠ 0) (lb : lv b ≠ 0) :
    cf_J T F L kd ct (cf_u (cf_u ow (8 * pg b + pl b) (a + 1)) (8 * pg a + pl a) (b + 1)) (cf_u (cf_u pg a (pg b)) b (pg a)) (cf_u (cf_u pl a (pl b)) b (pl a)) op cn (cf_u (cf_u lv a (lv b)) b (lv a)) := by
  obtain ⟨c, hc⟩ : ∃ c, lv a = c + 1 := ⟨lv a - 1, by omega⟩
  obtain ⟨d, hd⟩ : ∃ d, lv b = d + 1 := ⟨lv b - 1, by omega⟩
  obtain ⟨a1, a2, a3, a4, a5⟩ := cf_J_A J a c ha hc
  obtain ⟨b1, b2, b3, b4, b5⟩ := cf_J_A J b d hb hd
  have hT := cf_J_T J
  have pc := cf_p_pos c a1
  have pd := cf_p_pos d b1
  have kn : 8 * pg b + pl b ≠ 8 * pg a + pl a := by
    intro z
    rw [z, a5] at b5
    omega
  have h8a : pl a < 8 := by omega
  have h8b : pl b < 8 := by omega
  refine ⟨hT, ?_, ?_, ?_, cf_J_D J, cf_J_E J, cf_J_F J, cf_J_N J, ?_, ?_⟩
  · intro x e hx he
    by_cases xb : x = b
    · subst xb
      rw [cf_us] at he
      rw [cf_us, cf_us, cf_us]
      have : e = c := by omega
      subst this
      exact ⟨a1, a2, a3, a4, rfl⟩
    · rw [cf_uo xb] at he
      rw [cf_uo xb, cf_uo xb]
      by_cases xa : x = a
      · subst xa
        rw [cf_us] at he
        rw [cf_us, cf_us, cf_uo kn, cf_us]
        have : e = d := by omega
        subst this
        exact ⟨b1, b2, b3, b4, rfl⟩
      · rw [cf_uo xa] at he
        rw [cf_uo xa, cf_uo xa]
        obtain ⟨x1, x2, x3, x4, x5⟩ := cf_J_A J x e hx he
        refine ⟨x1, x2, x3, x4, ?_⟩
        rw [cf_uo, cf_uo]
        · exact x5
        · intro z
          rw [z, b5] at x5
          omega
        · intro z
          rw [z, a5] at x5
          omega
  · intro p' s' x hp' hs' hx
    by_cases e1 : 8 * p' + s' = 8 * pg a + pl a
    · rw [e1, cf_us] at hx
      have : x = b := by omega
      subst this
      rw [cf_us, cf_us, cf_us]
      exact ⟨hb, la, by omega, by omega⟩
    · rw [cf_uo e1] at hx
      by_cases e2 : 8 * p' + s' = 8 * pg b + pl b
      · rw [e2, cf_us] at hx
        have : x = a := by omega
        subst this
        rw [cf_uo hab, cf_us, cf_uo hab, cf_us, cf_uo hab, cf_us]
        exact ⟨ha, lb, by omega, by omega⟩
      · rw [cf_uo e2] at hx
        obtain ⟨g1, g2, g3, g4⟩ := cf_J_B J p' s' x hp' hs' hx
        have xa : x ≠ a := by
          intro z
          subst z
          exact e1 (by rw [g3, g4])
        have xb : x ≠ b := by
          intro z
          subst z
          exact e2 (by rw [g3, g4])
        rw [cf_uo xb, cf_uo xa, cf_uo xb, cf_uo xa, cf_uo xb, cf_uo xa]
        exact ⟨g1, g2, g3, g4⟩
  · intro p' hp'
    have g := cf_J_C J p' hp'
    have e : cf_q (fun s => cf_u (cf_u ow (8 * pg b + pl b) (a + 1)) (8 * pg a + pl a) (b + 1) (8 * p' + s)) 0 8 = cf_q (fun s => ow (8 * p' + s)) 0 8 := by
      rw [cf_row h8a p']
      by_cases e1 : p' = pg a
      · rw [if_pos e1]
        have q := cf_q_upd (f := fun t => cf_u ow (8 * pg b + pl b) (a + 1) (8 * pg a + t)) (k := pl a) (x := b + 1) 0 8 h8a
        rw [if_neg (show ¬ cf_u ow (8 * pg b + pl b) (a + 1) (8 * pg a + pl a) = 0 by rw [cf_uo (Ne.symm kn)]; omega), if_neg (by omega)] at q
        simp only [Nat.add_zero] at q
        rw [q, cf_row h8b (pg a)]
        by_cases e2 : pg a = pg b
        · rw [if_pos e2]
          have q := cf_q_upd (f := fun t => ow (8 * pg b + t)) (k := pl b) (x := a + 1) 0 8 h8b
          rw [if_neg (show ¬ ow (8 * pg b + pl b) = 0 by omega), if_neg (by omega)] at q
          simp only [Nat.add_zero] at q
          rw [q, e1, e2]
        · rw [if_neg e2, e1]
      · rw [if_neg e1, cf_row h8b p']
        by_cases e2 : p' = pg b
        · rw [if_pos e2]
          have q := cf_q_upd (f := fun t => ow (8 * pg b + t)) (k := pl b) (x := a + 1) 0 8 h8b
          rw [if_neg (show ¬ ow (8 * pg b + pl b) = 0 by omega), if_neg (by omega)] at q
          simp only [Nat.add_zero] at q
          rw [q, e2]
        · rw [if_neg e2]
    omega
  · intro e he
    have g := cf_J_G J e he
    have q1 := cf_q_upd (f := lv) (k := a) (x := lv b) (e + 1) 64 ha
    have q2 := cf_q_upd (f := cf_u lv a (lv b)) (k := b) (x := lv a) (e + 1) 64 hb
    rw [cf_uo (Ne.symm hab)] at q2
    omega
  · have g := cf_J_L J
    have q1 := cf_q_upd (f := lv) (k := a) (x := lv b) 0 64 ha
    have q2 := cf_q_upd (f := cf_u lv a (lv b)) (k := b) (x := lv a) 0 64 hb
    rw [cf_uo (Ne.symm hab)] at q2
    omega
theorem cf_J_pg (J : cf_J T F L kd ct ow pg pl op cn lv) {pg' pl' : Nat → Nat} (h : ∀ a, a < 64 → lv a ≠ 0 → pg' a = pg a ∧ pl' a = pl a) : cf_J T F L kd ct ow pg' pl' op cn lv := by
  refine ⟨cf_J_T J, ?_, ?_, cf_J_C J, cf_J_D J, cf_J_E J, cf_J_F J, cf_J_N J, cf_J_G J, cf_J_L J⟩
  · intro a c ha hc
    obtain ⟨e1, e2⟩ := h a ha (by omega)
    rw [e1, e2]
    exact cf_J_A J a c ha hc
  · intro p s a hp hs ha
    obtain ⟨h1, h2, h3⟩ := cf_J_B J p s a hp hs ha
    obtain ⟨e1, e2⟩ := h a h1 h2
    rw [e1, e2]
    exact ⟨h1, h2, h3⟩
/-- an object of a full page is taken out, and the object b of the unfilled page q fills its place -/
theorem cf_move (J : cf_J T F L kd ct ow pg pl op cn lv) {h c q t b : Nat} (hh : h < 64) (hl : lv h = c + 1) (ho : op c = q + 1) (hq : q ≠ pg h) (ht : t < 8) (hb : ow (8 * q + t) = b + 1) {F' : Nat} {kd' op' : Nat → Nat}
    (h0 : ct q = 1 → F' = F + 1 ∧ kd' = cf_u kd q 0 ∧ op' = cf_u op c 0) (h1 : ct q ≠ 1 → F' = F ∧ kd' = kd ∧ op' = op) :
    cf_J T F' (L - 1) kd' (cf_u ct q (ct q - 1)) (cf_u (cf_u (cf_u ow (8 * pg h + pl h) 0) (8 * q + t) 0) (8 * pg h + pl h) (b + 1)) (cf_u pg b (pg h)) (cf_u pl b (pl h)) op' (cf_u cn c (cn c - 1)) (cf_u lv h 0) := by
  obtain ⟨hc, hp, hk, hs, hw⟩ := cf_J_A J h c hh hl
  have hT := cf_J_T J
  have hpp := cf_p_pos c hc
  obtain ⟨-, e2⟩ := cf_J_E J c hc
  obtain ⟨q1, q2, q3, q4⟩ := e2 q ho
  obtain ⟨b1, b2, b3, b4⟩ := cf_J_B J q t b (by omega) ht hb
  have hbh : h ≠ b := by
    intro z
    subst z
    exact hq b3.symm
  obtain ⟨d, hd⟩ : ∃ d, lv b = d + 1 := ⟨lv b - 1, by omega⟩
  have hdc : d = c := by
    have := (cf_J_A J b d b1 hd).2.2.1
    rw [b3, q2] at this
    omega
  subst hdc
  have S := cf_swap J hh b1 hbh (by omega) b2
  have el : cf_u (cf_u lv h (lv b)) b (lv h) = lv := by
    rw [cf_uself (f := lv) (k := h) (by omega), cf_uself (by omega)]
  rw [el] at S
  have eg : cf_u (cf_u pg h (pg b)) b (pg h) h = q := by rw [cf_uo hbh, cf_us, b3]
  have ep : cf_u (cf_u pl h (pl b)) b (pl h) h = t := by rw [cf_uo hbh, cf_us, b4]
  have R := cf_remove S hh hl (F' := F') (kd' := kd') (op' := op') (Or.inr (by rw [eg]; exact ho)) (by rw [eg]; exact h0)
    (by rw [eg, cf_uself ho]; exact h1)
  rw [eg, ep, b3, b4] at R
  have kn : 8 * q + t ≠ 8 * pg h + pl h := by omega
  have eo : cf_u (cf_u (cf_u ow (8 * q + t) (h + 1)) (8 * pg h + pl h) (b + 1)) (8 * q + t) 0 = cf_u (cf_u (cf_u ow (8 * pg h + pl h) 0) (8 * q + t) 0) (8 * pg h + pl h) (b + 1) := by
    rw [cf_ucomm (Ne.symm kn), cf_uu, cf_ucomm (f := ow) (Ne.symm kn), cf_uu]
  rw [eo] at R
  refine cf_J_pg R fun a ha hla => ?_
  have e : a ≠ h := by
    intro z
    subst z
    exact hla cf_us
  by_cases e2 : a = b
  · subst e2
    rw [cf_us, cf_us, cf_us, cf_us]; exact ⟨rfl, rfl⟩
  · rw [cf_uo e2, cf_uo e2, cf_uo e2, cf_uo e2, cf_uo e, cf_uo e]; exact ⟨rfl, rfl⟩
end
end
section
/-! the component's state as a picture of naturals -/
abbrev cf_X (T F L : Nat) (mem : Nat → Int32) (kd ct ow pg pl sz op cn : Nat → Nat) (scr : Nat → Int32) : SX :=
  (nI T, nI F, nI L, mem, cf_e kd, cf_n ct, cf_e ow, cf_n pg, cf_n pl, cf_n sz, cf_e op, cf_n cn, scr)
theorem cf_rn {f : Nat → Nat} {k : Nat} (h : k < 2 ^ 31) : cf_n f (nI k).toNatClampNeg = nI (f k) := by rw [nI_clamp h]; rfl
theorem cf_re {f : Nat → Nat} {k : Nat} (h : k < 2 ^ 31) : cf_e f (nI k).toNatClampNeg = cf_I (f k) := by rw [nI_clamp h]; rfl
theorem cf_rs {f : Nat → Nat} {k x : Nat} (e : f k = x + 1) (h : k < 2 ^ 31) : cf_e f (nI k).toNatClampNeg = nI x := by rw [nI_clamp h]; show cf_I (f k) = _; rw [e]; rfl
theorem cf_wn {f : Nat → Nat} {k x : Nat} (h : k < 2 ^ 31) : upd (cf_n f) (nI k).toNatClampNeg (nI x) = cf_n (cf_u f k x) := by
  rw [nI_clamp h]
  funext j
  unfold upd cf_n cf_u
  by_cases e : j = k
  · rw [if_pos e, if_pos e]
  · rw [if_neg e, if_neg e]
theorem cf_we {f : Nat → Nat} {k x : Nat} (h : k < 2 ^ 31) : upd (cf_e f) (nI k).toNatClampNeg (nI x) = cf_e (cf_u f k (x + 1)) := by
  rw [nI_clamp h]
  funext j
  unfold upd cf_e cf_u
  by_cases e : j = k
  · rw [if_pos e, if_pos e]; rfl
  · rw [if_neg e, if_neg e]
theorem cf_w0 {f : Nat → Nat} {k : Nat} (h : k < 2 ^ 31) : upd (cf_e f) (nI k).toNatClampNeg (-1) = cf_e (cf_u f k 0) := by
  rw [nI_clamp h]
  funext j
  unfold upd cf_e cf_u
  by_cases e : j = k
  · rw [if_pos e, if_pos e]; rfl
  · rw [if_neg e, if_neg e]
theorem cf_I_m1 {n : Nat} (h : n < 2 ^ 31) : cf_I n = -1 ↔ n = 0 := by
  cases n with
  | zero => exact ⟨fun _ => rfl, fun _ => rfl⟩
  | succ m =>
    refine ⟨fun e => ?_, fun e => by omega⟩
    have e2 : (nI m).toInt = (-1 : Int32).toInt := congrArg Int32.toInt e
    rw [nI_toInt (by omega)] at e2
    have e3 : (-1 : Int32).toInt = -1 := by decide
    omega
theorem cf_I_ne {n : Nat} (h : n < 2 ^ 31) (h0 : n ≠ 0) : ¬ cf_I n = -1 := fun e => h0 ((cf_I_m1 h).mp e)
theorem cf_nI_m1 {n : Nat} (h : n < 2 ^ 31) : ¬ nI n = -1 := by
  intro e
  have e2 : (nI n).toInt = (-1 : Int32).toInt := congrArg Int32.toInt e
  rw [nI_toInt (by omega)] at e2
  have e3 : (-1 : Int32).toInt = -1 := by decide
  omega
theorem cf_i8 (p s : Nat) : 8 * nI p + nI s = nI (8 * p + s) := by
  rw [show (8 : Int32) = nI 8 from rfl, pk_mul, nI_add]
theorem cf_i16 (p s : Nat) : 16 * nI p + nI s = nI (16 * p + s) := by
  rw [show (16 : Int32) = nI 16 from rfl, pk_mul, nI_add]
theorem cf_cap : ∀ c, c < 4 → (8 : Int32) >>> (nI c &&& 31) = nI (cf_p c) := by
  refine cf_c4 ?_ ?_ ?_ ?_ <;> decide +kernel
theorem cf_wid : ∀ c, c < 4 → (2 : Int32) <<< (nI c &&& 31) = nI (2 ^ (c + 1)) := by
  refine cf_c4 ?_ ?_ ?_ ?_ <;> decide +kernel
theorem cf_capW {post : Int32 → Prop} {c : Nat} (hc : c < 4) (H : post (nI (cf_p c))) : wpX_capacity post (nI c) :=
  Eq.mpr (congrArg post (cf_cap c hc)) H
theorem cf_least {P : Nat → Prop} {n : Nat} (h : ∃ k, k < n ∧ P k) : ∃ k, k < n ∧ P k ∧ ∀ j, j < k → ¬ P j := by
  obtain ⟨k, hk, pk⟩ := h
  obtain ⟨m, pm, hm⟩ := pk_least P ⟨k, pk⟩
  refine ⟨m, ?_, pm, hm⟩
  have := hm k
  rcases Nat.lt_or_ge k m with h | h
  · exact absurd pk (this h)
  · omega
theorem cf_last {P : Nat → Prop} {n : Nat} (h : ∃ k, k < n ∧ P k) : ∃ k, k < n ∧ P k ∧ ∀ j, k < j → j < n → ¬ P j := by
  obtain ⟨k, hk, pk⟩ := h
  obtain ⟨m, hm, pm, hm2⟩ := cf_least (P := fun d => P (n - 1 - d)) (n := n) ⟨n - 1 - k, by omega, by rw [show n - 1 - (n - 1 - k) = k by omega]; exact pk⟩
  refine ⟨n - 1 - m, by omega, pm, fun j h1 h2 pj => hm2 (n - 1 - j) (by omega) ?_⟩
  show P (n - 1 - (n - 1 - j))
  rw [show n - 1 - (n - 1 - j) = j by omega]; exact pj
/-- w words written from d on -/
def cf_wr (m : Nat → Int32) (d w : Nat) (g : Nat → Int32) : Nat → Int32 := fun j => if d ≤ j ∧ j < d + w then g (j - d) else m j
theorem cf_wr_0 {m : Nat → Int32} {d : Nat} {g : Nat → Int32} : cf_wr m d 0 g = m := by
  funext j
  exact if_neg (by omega)
theorem cf_wr_in {m : Nat → Int32} {d w k : Nat} {g : Nat → Int32} (h : k < w) : cf_wr m d w g (d + k) = g k := by
  unfold cf_wr
  rw [if_pos (by omega), Nat.add_sub_cancel_left]
theorem cf_wr_out {m : Nat → Int32} {d w j : Nat} {g : Nat → Int32} (h : ∀ k, k < w → j ≠ d + k) : cf_wr m d w g j = m j := by
  refine if_neg fun z => h (j - d) (by omega) (by omega)
theorem cf_wr_s {m : Nat → Int32} {d w : Nat} {g : Nat → Int32} {x : Int32} (hx : x = g w) : upd (cf_wr m d w g) (d + w) x = cf_wr m d (w + 1) g := by
  subst hx
  funext j
  unfold upd cf_wr
  by_cases e : j = d + w
  · subst e
    rw [if_pos rfl, if_pos (by omega), Nat.add_sub_cancel_left]
  · rw [if_neg e]
    by_cases e2 : d ≤ j ∧ j < d + w
    · rw [if_pos e2, if_pos (by omega)]
    · rw [if_neg e2, if_neg (by omega)]
end
section
/-! placeObject -/
section
variable {T F L : Nat} {mem : Nat → Int32} {kd ct ow pg pl sz op cn : Nat → Nat} {scr : Nat → Int32} {post : SX → Prop}
theorem cf_w107 {h c p k s : Nat} (hh : h < 64) (hc : c < 4) (hp : p < 12) (hs : s < 8) (hk : k ≤ 8) (hct : ct p ≤ 8)
    (H : post (cf_X T F (L + 1) mem kd (cf_u ct p (ct p + 1)) (cf_u ow (8 * p + s) (h + 1)) (cf_u pg h p) (cf_u pl h s) sz (if ct p + 1 = k then cf_u op c 0 else op) (cf_u cn c (cn c + 1)) scr)) :
    wX_placeObject_107 post (nI h) (nI c) (nI p) (nI k) (nI s) (nI T) (nI F) (nI L) mem (cf_e kd) (cf_n ct) (cf_e ow) (cf_n pg) (cf_n pl) (cf_n sz) (cf_e op) (cf_n cn) scr := by
  have i1 : vp_in (8 * nI p + nI s) 96 := by rw [cf_i8]; exact vp_in_nI (by omega) (by omega)
  have i2 : vp_in (nI h) 64 := vp_in_nI hh (by omega)
  have i3 : vp_in (nI p) 12 := vp_in_nI hp (by omega)
  have i4 : vp_in (nI c) 4 := vp_in_nI hc (by omega)
  have e1 : upd (cf_e ow) (8 * nI p + nI s).toNatClampNeg (nI h) = cf_e (cf_u ow (8 * p + s) (h + 1)) := by rw [cf_i8, cf_we (by omega)]
  have e2 : upd (cf_n ct) (nI p).toNatClampNeg (cf_n ct (nI p).toNatClampNeg + 1) = cf_n (cf_u ct p (ct p + 1)) := by rw [cf_rn (by omega), nI_1, cf_wn (by omega)]
  have e3 : upd (cf_n cn) (nI c).toNatClampNeg (cf_n cn (nI c).toNatClampNeg + 1) = cf_n (cf_u cn c (cn c + 1)) := by rw [cf_rn (by omega), nI_1, cf_wn (by omega)]
  refine ⟨i1, nm_r e1 ⟨i2, nm_r (cf_wn (by omega)) ⟨i2, nm_r (cf_wn (by omega)) ⟨i3, i3, nm_r e2 ⟨i4, i4, nm_r e3 (nm_r (nI_1 L) ⟨i3, ?_⟩)⟩⟩⟩⟩⟩
  have e4 : cf_n (cf_u ct p (ct p + 1)) (nI p).toNatClampNeg = nI (ct p + 1) := by rw [cf_rn (by omega), cf_us]
  refine pk_eq (ct p + 1) k (fun z => ?_) (fun z => ?_) e4 rfl (by omega) (by omega)
  · rw [if_pos z] at H
    exact ⟨i4, nm_r (cf_w0 (by omega)) H⟩
  · rw [if_neg z] at H
    exact H
theorem cf_w76 {h c p k m s : Nat} (hp : p < 12) (hk : k = m + 1) (hm : m < 8) (hs : s ≤ m) (h0 : ow (8 * p + s) = 0) (hn : ∀ j, j < s → ow (8 * p + j) ≠ 0) (hb : ∀ j, j < 8 → ow (8 * p + j) < 2 ^ 31)
    (K : wX_placeObject_107 post (nI h) (nI c) (nI p) (nI k) (nI s) (nI T) (nI F) (nI L) mem (cf_e kd) (cf_n ct) (cf_e ow) (cf_n pg) (cf_n pl) (cf_n sz) (cf_e op) (cf_n cn) scr) : ∀ d i n, i + d = s → d < n → wX_placeObject_76 post (nI h) (nI c) (nI p) (nI k) (nI T) (nI F) (nI L) mem (cf_e kd) (cf_n ct) (cf_e ow) (cf_n pg) (cf_n pl) (cf_n sz) (cf_e op) (cf_n cn) scr n (nI i) := by
  intro d
  induction d with
  | zero =>
    intro i n hi hd
    have : i = s := by omega
    subst this
    cases n with
    | zero => omega
    | succ n =>
      have e : nI k - 1 = nI m := by rw [hk, nI_pred]
      refine pk_le m i (fun _ => K) (fun z => ?_) e rfl (by omega) (by omega)
      refine ⟨by rw [cf_i8]; exact vp_in_nI (by omega) (by omega), br_t ?_ K⟩
      rw [cf_i8, cf_re (by omega), h0]
      rfl
  | succ d ih =>
    intro i n hi hd
    cases n with
    | zero => omega
    | succ n =>
      have e : nI k - 1 = nI m := by rw [hk, nI_pred]
      refine pk_le m i (fun z => by omega) (fun z => ?_) e rfl (by omega) (by omega)
      refine ⟨by rw [cf_i8]; exact vp_in_nI (by omega) (by omega), br_f ?_ (nm_r (nI_1 i) (ih (i + 1) n (by omega) (by omega)))⟩
      rw [cf_i8, cf_re (by omega)]
      exact cf_I_ne (hb i (by omega)) (hn i (by omega))
theorem cf_w14 {h c p : Nat} (hp : p < 12) (h0 : kd p = 0) (hn : ∀ j, j < p → kd j ≠ 0) (hb : ∀ j, j < 12 → kd j < 2 ^ 31)
    (K : wX_placeObject_36 post (nI h) (nI c) (nI p) (nI T) (nI F) (nI L) mem (cf_e kd) (cf_n ct) (cf_e ow) (cf_n pg) (cf_n pl) (cf_n sz) (cf_e op) (cf_n cn) scr) : ∀ d i n, i + d = p → d < n → wX_placeObject_14 post (nI h) (nI c) (nI T) (nI F) (nI L) mem (cf_e kd) (cf_n ct) (cf_e ow) (cf_n pg) (cf_n pl) (cf_n sz) (cf_e op) (cf_n cn) scr n (nI i) := by
  intro d
  induction d with
  | zero =>
    intro i n hi hd
    have : i = p := by omega
    subst this
    cases n with
    | zero => omega
    | succ n =>
      refine pk_le 11 i (fun _ => K) (fun z => ⟨vp_in_nI hp (by omega), br_t ?_ K⟩)
      rw [cf_re (by omega), h0]
      rfl
  | succ d ih =>
    intro i n hi hd
    cases n with
    | zero => omega
    | succ n =>
      refine pk_le 11 i (fun z => by omega) (fun z => ⟨vp_in_nI (by omega) (by omega), br_f ?_ (nm_r (nI_1 i) (ih (i + 1) n (by omega) (by omega)))⟩)
      rw [cf_re (by omega)]
      exact cf_I_ne (hb i (by omega)) (hn i (by omega))
theorem cf_w36 {h c p : Nat} (hc : c < 4) (hp : p < 12) (hF : 0 < F)
    (K : wX_placeObject_67 post (nI h) (nI c) (nI p) (nI T) (nI (F - 1)) (nI L) mem (cf_e (cf_u kd p (c + 1))) (cf_n (cf_u ct p 0)) (cf_e ow) (cf_n pg) (cf_n pl) (cf_n sz) (cf_e (cf_u op c (p + 1))) (cf_n cn) scr) : wX_placeObject_36 post (nI h) (nI c) (nI p) (nI T) (nI F) (nI L) mem (cf_e kd) (cf_n ct) (cf_e ow) (cf_n pg) (cf_n pl) (cf_n sz) (cf_e op) (cf_n cn) scr := by
  have i3 : vp_in (nI p) 12 := vp_in_nI hp (by omega)
  have i4 : vp_in (nI c) 4 := vp_in_nI hc (by omega)
  have e : nI F - 1 = nI (F - 1) := by
    obtain ⟨m, rfl⟩ : ∃ m, F = m + 1 := ⟨F - 1, by omega⟩
    rw [nI_pred, Nat.add_sub_cancel]
  exact ⟨i3, nm_r (cf_we (by omega)) ⟨i3, nm_r (cf_wn (x := 0) (by omega)) (nm_r e ⟨i4, nm_r (cf_we (by omega)) K⟩)⟩⟩
theorem cf_w67 {h c p s : Nat} (hh : h < 64) (hc : c < 4) (hp : p < 12) (hs : s < cf_p c) (h0 : ow (8 * p + s) = 0) (hn : ∀ j, j < s → ow (8 * p + j) ≠ 0) (hb : ∀ j, j < 8 → ow (8 * p + j) < 2 ^ 31) (hct : ct p ≤ 8)
    (H : post (cf_X T F (L + 1) mem kd (cf_u ct p (ct p + 1)) (cf_u ow (8 * p + s) (h + 1)) (cf_u pg h p) (cf_u pl h s) sz (if ct p + 1 = cf_p c then cf_u op c 0 else op) (cf_u cn c (cn c + 1)) scr)) :
    wX_placeObject_67 post (nI h) (nI c) (nI p) (nI T) (nI F) (nI L) mem (cf_e kd) (cf_n ct) (cf_e ow) (cf_n pg) (cf_n pl) (cf_n sz) (cf_e op) (cf_n cn) scr := by
  have hpp := cf_p_pos c hc
  refine cf_capW hc ⟨9, ?_⟩
  exact cf_w76 (m := cf_p c - 1) hp (by omega) (by omega) (by omega) h0 hn hb (cf_w107 hh hc hp (by omega) (by omega) hct H) s 0 9 (by omega) (by omega)
end
section
variable {T F L : Nat} {mem : Nat → Int32} {kd ct ow pg pl sz op cn : Nat → Nat} {scr : Nat → Int32} {lv : Nat → Nat}
theorem cf_ow_lt (J : cf_J T F L kd ct ow pg pl op cn lv) {p s : Nat} (hp : p < 12) (hs : s < 8) : ow (8 * p + s) < 2 ^ 31 := by
  cases e : ow (8 * p + s) with
  | zero => omega
  | succ a =>
    have := (cf_J_B J p s a hp hs e).1
    omega
theorem cf_kd_lt (J : cf_J T F L kd ct ow pg pl op cn lv) {p : Nat} (hp : p < 12) : kd p < 2 ^ 31 := by
  cases e : kd p with
  | zero => omega
  | succ c =>
    have := (cf_J_D J p c hp e).1
    omega
theorem cf_op_lt (J : cf_J T F L kd ct ow pg pl op cn lv) {c : Nat} (hc : c < 4) : op c < 2 ^ 31 := by
  cases e : op c with
  | zero => omega
  | succ p =>
    have := (cf_J_E J c hc).2 p e
    have := cf_J_T J
    omega
theorem cf_ct_le (J : cf_J T F L kd ct ow pg pl op cn lv) {p : Nat} (hp : p < 12) : ct p ≤ 8 := by
  have := cf_J_C J p hp
  omega
/-- placeObject, where there is room -/
theorem cf_placeW (J : cf_J T F L kd ct ow pg pl op cn lv) {h c : Nat} (hh : h < 64) (hc : c < 4) (hl : lv h = 0) (hr : op c = 0 → 0 < F) :
    ∃ (F' L' : Nat) (kd' ct' ow' pg' pl' op' cn' : Nat → Nat), cf_J T F' L' kd' ct' ow' pg' pl' op' cn' (cf_u lv h (c + 1)) ∧ (∀ a, a ≠ h → pg' a = pg a ∧ pl' a = pl a) ∧
      ∀ (post : SX → Prop) (mem : Nat → Int32) (sz : Nat → Nat) (scr : Nat → Int32), post (cf_X T F' L' mem kd' ct' ow' pg' pl' sz op' cn' scr) → wpX_placeObject post (cf_X T F L mem kd ct ow pg pl sz op cn scr) (nI h) (nI c) := by
  have hT := cf_J_T J
  have hpp := cf_p_pos c hc
  have i4 : vp_in (nI c) 4 := vp_in_nI hc (by omega)
  cases ho : op c with
  | zero =>
    have hF := hr ho
    obtain ⟨p, hp, hk, hmin⟩ := cf_least (P := fun p => kd p = 0) (cf_q_ex T (by rw [← cf_J_F J]; exact hF))
    have hf : (op c = p + 1 ∧ F - 1 = F) ∨ (op c = 0 ∧ kd p = 0 ∧ F - 1 + 1 = F) := Or.inr ⟨ho, hk, by omega⟩
    obtain ⟨k1, k2, k3, k4, k5, k6⟩ := cf_pl_fact J hc hp hf
    obtain ⟨s, hs, h0, hsm⟩ := cf_least (P := fun s => ow (8 * p + s) = 0) (cf_free J (by omega) hc k3 k2)
    refine ⟨_, _, _, _, _, _, _, _, _, cf_place J hh hc hl hp hs h0 hf, fun a ha => ⟨cf_uo ha, cf_uo ha⟩, fun post mem sz scr H => ?_⟩
    refine ⟨i4, nm_r (cf_re (by omega)) (br_t (by rw [ho]; rfl) ⟨13, ?_⟩)⟩
    refine cf_w14 (p := p) (by omega) hk hmin (fun j hj => cf_kd_lt J hj) (cf_w36 hc (by omega) hF ?_) p 0 13 (by omega) (by omega)
    have ec : cf_u ct p 0 = ct := cf_uself (cf_ct0 J (by omega) hk)
    rw [ec]
    refine cf_w67 hh hc (by omega) hs h0 hsm (fun j hj => cf_ow_lt J (by omega) hj) (cf_ct_le J (by omega)) ?_
    have eo : (if ct p + 1 = cf_p c then cf_u (cf_u op c (p + 1)) c 0 else cf_u op c (p + 1)) = cf_u op c (if ct p + 1 = cf_p c then 0 else p + 1) := by
      split
      · exact cf_uu
      · rfl
    rw [eo]
    exact H
  | succ p =>
    obtain ⟨hp, hk, g1, g2⟩ := (cf_J_E J c hc).2 p ho
    have hf : (op c = p + 1 ∧ F = F) ∨ (op c = 0 ∧ kd p = 0 ∧ F + 1 = F) := Or.inl ⟨ho, rfl⟩
    obtain ⟨s, hs, h0, hsm⟩ := cf_least (P := fun s => ow (8 * p + s) = 0) (cf_free J (by omega) hc (Or.inr hk) g1)
    refine ⟨_, _, _, _, _, _, _, _, _, cf_place J hh hc hl hp hs h0 hf, fun a ha => ⟨cf_uo ha, cf_uo ha⟩, fun post mem sz scr H => ?_⟩
    refine ⟨i4, nm_r (cf_rs ho (by omega)) (br_f (cf_nI_m1 (by omega)) ?_)⟩
    refine cf_w67 hh hc (by omega) hs h0 hsm (fun j hj => cf_ow_lt J (by omega) hj) (cf_ct_le J (by omega)) ?_
    have eo : (if ct p + 1 = cf_p c then cf_u op c 0 else op) = cf_u op c (if ct p + 1 = cf_p c then 0 else p + 1) := by
      split
      · rfl
      · exact (cf_uself ho).symm
    have ek : cf_u kd p (c + 1) = kd := cf_uself hk
    rw [ek] at H
    rw [eo]
    exact H
end
end
section
/-! removeObject and moveOne -/
section
variable {T F L : Nat} {mem : Nat → Int32} {kd ct ow pg pl sz op cn : Nat → Nat} {scr : Nat → Int32} {post : SX → Prop}
theorem cf_w108 {c q : Nat} (hc : c < 4) (hq : q < 12) (hct : ct q ≤ 8)
    (H0 : ct q = 0 → post (cf_X T (F + 1) L mem (cf_u kd q 0) ct ow pg pl sz (cf_u op c 0) cn scr)) (H1 : ct q ≠ 0 → post (cf_X T F L mem kd ct ow pg pl sz op cn scr)) : wX_removeObject_108 post (nI c) (nI q) (nI T) (nI F) (nI L) mem (cf_e kd) (cf_n ct) (cf_e ow) (cf_n pg) (cf_n pl) (cf_n sz) (cf_e op) (cf_n cn) scr := by
  have i3 : vp_in (nI q) 12 := vp_in_nI hq (by omega)
  have i4 : vp_in (nI c) 4 := vp_in_nI hc (by omega)
  refine ⟨i3, pk_eq (ct q) 0 (fun z => ⟨i3, nm_r (cf_w0 (by omega)) ⟨i4, nm_r (cf_w0 (by omega)) (nm_r (nI_1 F) (H0 z))⟩⟩) H1 (cf_rn (by omega)) rfl (by omega) (by omega)⟩
/-- the words of one place go to another; then the tables -/
theorem cf_w58 {q p s t b w : Nat} (hq : q < 12) (hp : p < 12) (hs : s < 8) (ht : t < 8) (hb : b < 64) (hsw : s * w + w ≤ 16) (htw : t * w + w ≤ 16) (hqp : q ≠ p) (hc1 : 0 < ct q)
    (H : post (cf_X T F L (cf_wr mem (16 * p + s * w) w (fun k => mem (16 * q + t * w + k))) kd (cf_u (cf_u ct q (ct q - 1)) p (ct p + 1)) (cf_u (cf_u ow (8 * q + t) 0) (8 * p + s) (b + 1)) (cf_u pg b p) (cf_u pl b s) sz op cn scr)) :
    ∀ d i n, i + d = w → d < n → wX_moveOne_58 post (nI q) (nI p) (nI s) (nI t) (nI b) (nI w) (nI T) (nI F) (nI L) n (nI i) (cf_wr mem (16 * p + s * w) i (fun k => mem (16 * q + t * w + k))) (cf_e kd) (cf_n ct) (cf_e ow) (cf_n pg) (cf_n pl) (cf_n sz) (cf_e op) (cf_n cn) scr := by
  intro d
  induction d with
  | zero =>
    intro i n hi hd
    have : i = w := by omega
    subst this
    cases n with
    | zero => omega
    | succ n =>
      have i1 : vp_in (8 * nI q + nI t) 96 := by rw [cf_i8]; exact vp_in_nI (by omega) (by omega)
      have i2 : vp_in (8 * nI p + nI s) 96 := by rw [cf_i8]; exact vp_in_nI (by omega) (by omega)
      have i3 : vp_in (nI b) 64 := vp_in_nI hb (by omega)
      have i4 : vp_in (nI q) 12 := vp_in_nI hq (by omega)
      have i5 : vp_in (nI p) 12 := vp_in_nI hp (by omega)
      have e1 : upd (cf_e ow) (8 * nI q + nI t).toNatClampNeg (-1) = cf_e (cf_u ow (8 * q + t) 0) := by rw [cf_i8, cf_w0 (by omega)]
      have e2 : upd (cf_e (cf_u ow (8 * q + t) 0)) (8 * nI p + nI s).toNatClampNeg (nI b) = cf_e (cf_u (cf_u ow (8 * q + t) 0) (8 * p + s) (b + 1)) := by rw [cf_i8, cf_we (by omega)]
      have e3 : upd (cf_n ct) (nI q).toNatClampNeg (cf_n ct (nI q).toNatClampNeg - 1) = cf_n (cf_u ct q (ct q - 1)) := by
        obtain ⟨m, hm⟩ : ∃ m, ct q = m + 1 := ⟨ct q - 1, by omega⟩
        rw [cf_rn (by omega), hm, nI_pred, cf_wn (by omega), Nat.add_sub_cancel]
      have e4 : upd (cf_n (cf_u ct q (ct q - 1))) (nI p).toNatClampNeg (cf_n (cf_u ct q (ct q - 1)) (nI p).toNatClampNeg + 1) = cf_n (cf_u (cf_u ct q (ct q - 1)) p (ct p + 1)) := by
        rw [cf_rn (by omega), cf_uo (Ne.symm hqp), nI_1, cf_wn (by omega)]
      refine br_t (nI_le (Nat.le_refl _) (by omega)) ⟨i1, nm_r e1 ⟨i2, nm_r e2 ⟨i3, nm_r (cf_wn (by omega)) ⟨i3, nm_r (cf_wn (by omega)) ⟨i4, i4, nm_r e3 ⟨i5, i5, nm_r e4 H⟩⟩⟩⟩⟩⟩
  | succ d ih =>
    intro i n hi hd
    cases n with
    | zero => omega
    | succ n =>
      have j1 : 16 * nI q + nI t * nI w + nI i = nI (16 * q + t * w + i) := by rw [pk_mul, cf_i16, nI_add]
      have j2 : 16 * nI p + nI s * nI w + nI i = nI (16 * p + s * w + i) := by rw [pk_mul, cf_i16, nI_add]
      have i1 : vp_in (16 * nI q + nI t * nI w + nI i) 192 := by rw [j1]; exact vp_in_nI (by omega) (by omega)
      have i2 : vp_in (16 * nI p + nI s * nI w + nI i) 192 := by rw [j2]; exact vp_in_nI (by omega) (by omega)
      have e : upd (cf_wr mem (16 * p + s * w) i (fun k => mem (16 * q + t * w + k))) (16 * nI p + nI s * nI w + nI i).toNatClampNeg (cf_wr mem (16 * p + s * w) i (fun k => mem (16 * q + t * w + k)) (16 * nI q + nI t * nI w + nI i).toNatClampNeg) = cf_wr mem (16 * p + s * w) (i + 1) (fun k => mem (16 * q + t * w + k)) := by
        rw [j1, j2, nI_clamp (by omega), nI_clamp (by omega)]
        refine cf_wr_s (cf_wr_out fun k hk => ?_)
        rcases Nat.lt_or_gt_of_ne hqp with g | g <;> omega
      exact br_f (nI_ge (by omega) (by omega)) ⟨i1, i2, nm_r e (nm_r (nI_1 i) (ih (i + 1) n (by omega) (by omega)))⟩
theorem cf_w31 {q p s t b c : Nat} (hc : c < 4) (hq : q < 12) (hp : p < 12) (hs : s < cf_p c) (ht : t < cf_p c) (hb : b < 64) (hqp : q ≠ p) (hc1 : 0 < ct q) (ho : ow (8 * q + t) = b + 1) (hk : kd p = c + 1)
    (H : post (cf_X T F L (cf_wr mem (16 * p + s * 2 ^ (c + 1)) (2 ^ (c + 1)) (fun k => mem (16 * q + t * 2 ^ (c + 1) + k))) kd (cf_u (cf_u ct q (ct q - 1)) p (ct p + 1)) (cf_u (cf_u ow (8 * q + t) 0) (8 * p + s) (b + 1)) (cf_u pg b p) (cf_u pl b s) sz op cn scr)) :
    wX_moveOne_31 post (nI q) (nI p) (nI s) (nI t) (nI T) (nI F) (nI L) mem (cf_e kd) (cf_n ct) (cf_e ow) (cf_n pg) (cf_n pl) (cf_n sz) (cf_e op) (cf_n cn) scr := by
  have hpp := cf_p_pos c hc
  have i1 : vp_in (8 * nI q + nI t) 96 := by rw [cf_i8]; exact vp_in_nI (by omega) (by omega)
  have i5 : vp_in (nI p) 12 := vp_in_nI hp (by omega)
  have e1 : cf_e ow (8 * nI q + nI t).toNatClampNeg = nI b := by rw [cf_i8, cf_rs ho (by omega)]
  have e2 : (2 : Int32) <<< (cf_e kd (nI p).toNatClampNeg &&& 31) = nI (2 ^ (c + 1)) := by rw [cf_rs hk (by omega), cf_wid c hc]
  have hw : 0 < 2 ^ (c + 1) := Nat.two_pow_pos _
  have s1 := cf_slot c hc s hs
  have s2 := cf_slot c hc t ht
  refine ⟨i1, nm_r e1 ⟨i5, nm_r e2 ⟨2 ^ (c + 1) + 1, ?_⟩⟩⟩
  have W := cf_w58 (w := 2 ^ (c + 1)) (s := s) (t := t) (b := b) hq hp (by omega) (by omega) hb s1 s2 hqp hc1 H (2 ^ (c + 1)) 0 (2 ^ (c + 1) + 1) (by omega) (by omega)
  rw [cf_wr_0] at W
  exact W
theorem cf_w4m {q p s t : Nat} (hq : q < 12) (ht : t < 8) (h0 : ow (8 * q + t) ≠ 0) (hn : ∀ j, t < j → j < 8 → ¬ ow (8 * q + j) ≠ 0) (hb : ow (8 * q + t) < 2 ^ 31)
    (K : wX_moveOne_31 post (nI q) (nI p) (nI s) (nI t) (nI T) (nI F) (nI L) mem (cf_e kd) (cf_n ct) (cf_e ow) (cf_n pg) (cf_n pl) (cf_n sz) (cf_e op) (cf_n cn) scr) : ∀ d i n, i = t + d → i < 8 → d < n → wX_moveOne_4 post (nI q) (nI p) (nI s) (nI T) (nI F) (nI L) mem (cf_e kd) (cf_n ct) (cf_e ow) (cf_n pg) (cf_n pl) (cf_n sz) (cf_e op) (cf_n cn) scr n (nI i) := by
  intro d
  induction d with
  | zero =>
    intro i n hi hi8 hd
    have : i = t := by omega
    subst this
    cases n with
    | zero => omega
    | succ n =>
      refine pk_le i 0 (fun _ => K) (fun z => ⟨by rw [cf_i8]; exact vp_in_nI (by omega) (by omega), br_f ?_ K⟩)
      rw [cf_i8, cf_re (by omega)]
      exact cf_I_ne hb h0
  | succ d ih =>
    intro i n hi hi8 hd
    cases n with
    | zero => omega
    | succ n =>
      have e : nI i + (-1) = nI (t + d) := by
        rw [show i = (t + d) + 1 by omega, pk_m1]
      refine pk_le i 0 (fun z => by omega) (fun z => ⟨by rw [cf_i8]; exact vp_in_nI (by omega) (by omega), br_t ?_ (nm_r e (ih (t + d) n rfl (by omega) (by omega)))⟩)
      have g : ow (8 * q + i) = 0 := Classical.byContradiction fun z => hn i (by omega) hi8 z
      rw [cf_i8, cf_re (by omega), g]
      rfl
end
section
variable {T F L : Nat} {mem : Nat → Int32} {kd ct ow pg pl sz op cn : Nat → Nat} {scr : Nat → Int32} {lv : Nat → Nat}
theorem cf_place_lt (J : cf_J T F L kd ct ow pg pl op cn lv) {q t b c : Nat} (hq : q < 12) (ht : t < 8) (ho : ow (8 * q + t) = b + 1) (hk : kd q = c + 1) : t < cf_p c := by
  refine Classical.byContradiction fun z => ?_
  have := cf_ow0 J hq ht (Or.inr ⟨c, hk, by omega⟩)
  omega
/-- two objects' words lie apart -/
theorem cf_apart (J : cf_J T F L kd ct ow pg pl op cn lv) {a b : Nat} (ha : a < 64) (hb : b < 64) (hab : a ≠ b) (la : lv a ≠ 0) (lb : lv b ≠ 0) {k l : Nat} (hk : k < 2 ^ lv a) (hl : l < 2 ^ lv b) :
    16 * pg a + pl a * 2 ^ lv a + k ≠ 16 * pg b + pl b * 2 ^ lv b + l := by
  obtain ⟨c, ec⟩ : ∃ c, lv a = c + 1 := ⟨lv a - 1, by omega⟩
  obtain ⟨d, ed⟩ : ∃ d, lv b = d + 1 := ⟨lv b - 1, by omega⟩
  obtain ⟨a1, a2, a3, a4, a5⟩ := cf_J_A J a c ha ec
  obtain ⟨b1, b2, b3, b4, b5⟩ := cf_J_A J b d hb ed
  rw [ec] at hk
  rw [ed] at hl
  rw [ec, ed]
  have s1 := cf_slot c a1 (pl a) a4
  have s2 := cf_slot d b1 (pl b) b4
  by_cases e : pg a = pg b
  · rw [e, b3] at a3
    have : d = c := by omega
    subst this
    have hpl : pl a ≠ pl b := by
      intro z
      rw [e, z, b5] at a5
      omega
    have := cf_slot_ne d a1 (pl a) (pl b) k l hpl hk hl
    rw [e]
    omega
  · intro z
    rcases Nat.lt_or_gt_of_ne e with g | g <;> omega
theorem cf_within (J : cf_J T F L kd ct ow pg pl op cn lv) {a : Nat} (ha : a < 64) (la : lv a ≠ 0) {k : Nat} (hk : k < 2 ^ lv a) : 16 * pg a + pl a * 2 ^ lv a + k < 192 := by
  obtain ⟨c, ec⟩ : ∃ c, lv a = c + 1 := ⟨lv a - 1, by omega⟩
  obtain ⟨a1, a2, a3, a4, a5⟩ := cf_J_A J a c ha ec
  have s1 := cf_slot c a1 (pl a) a4
  have hT := cf_J_T J
  rw [ec] at hk ⊢
  omega
/-- removeObject: the other objects keep their words -/
theorem cf_removeW (J : cf_J T F L kd ct ow pg pl op cn lv) {h c : Nat} (hh : h < 64) (hl : lv h = c + 1) (mem : Nat → Int32) :
    ∃ (F' L' : Nat) (mem' : Nat → Int32) (kd' ct' ow' pg' pl' op' cn' : Nat → Nat), cf_J T F' L' kd' ct' ow' pg' pl' op' cn' (cf_u lv h 0) ∧
      (∀ a, a < 64 → a ≠ h → lv a ≠ 0 → ∀ k, k < 2 ^ lv a → mem' (16 * pg' a + pl' a * 2 ^ lv a + k) = mem (16 * pg a + pl a * 2 ^ lv a + k)) ∧
      ∀ (post : SX → Prop) (sz : Nat → Nat) (scr : Nat → Int32), post (cf_X T F' L' mem' kd' ct' ow' pg' pl' sz op' cn' scr) → wpX_removeObject post (cf_X T F L mem kd ct ow pg pl sz op cn scr) (nI h) := by
  obtain ⟨hc, hp, hk, hs, hw⟩ := cf_J_A J h c hh hl
  have hT := cf_J_T J
  have hpp := cf_p_pos c hc
  have hs8 : pl h < 8 := by omega
  have hpos := cf_cn_pos J hh hc hl
  obtain ⟨-, -, d1, d2, d3⟩ := cf_J_D J (pg h) c (by omega) hk
  have hLp : 0 < L := by
    have g1 := cf_J_L J
    have g2 := cf_q_upd (f := lv) (k := h) (x := 0) 0 64 hh
    have g3 := cf_q_le (cf_u lv h 0) 0 64
    rw [if_neg (show ¬ lv h = 0 by omega), if_pos rfl] at g2
    omega
  have i0 : vp_in (nI h) 64 := vp_in_nI hh (by omega)
  have i1 : vp_in (nI (pg h)) 12 := vp_in_nI (by omega) (by omega)
  have i2 : vp_in (8 * nI (pg h) + nI (pl h)) 96 := by rw [cf_i8]; exact vp_in_nI (by omega) (by omega)
  have i3 : vp_in (nI c) 4 := vp_in_nI hc (by omega)
  have e1 : cf_n pg (nI h).toNatClampNeg = nI (pg h) := cf_rn (by omega)
  have e2 : cf_n pl (nI h).toNatClampNeg = nI (pl h) := cf_rn (by omega)
  have e3 : cf_e kd (nI (pg h)).toNatClampNeg = nI c := cf_rs hk (by omega)
  have e4 : upd (cf_e ow) (8 * nI (pg h) + nI (pl h)).toNatClampNeg (-1) = cf_e (cf_u ow (8 * pg h + pl h) 0) := by rw [cf_i8, cf_w0 (by omega)]
  have e5 : upd (cf_n ct) (nI (pg h)).toNatClampNeg (cf_n ct (nI (pg h)).toNatClampNeg - 1) = cf_n (cf_u ct (pg h) (ct (pg h) - 1)) := by
    obtain ⟨m, hm⟩ : ∃ m, ct (pg h) = m + 1 := ⟨ct (pg h) - 1, by omega⟩
    rw [cf_rn (by omega), hm, nI_pred, cf_wn (by omega), Nat.add_sub_cancel]
  have e6 : upd (cf_n cn) (nI c).toNatClampNeg (cf_n cn (nI c).toNatClampNeg - 1) = cf_n (cf_u cn c (cn c - 1)) := by
    obtain ⟨m, hm⟩ : ∃ m, cn c = m + 1 := ⟨cn c - 1, by omega⟩
    rw [cf_rn (by omega), hm, nI_pred, cf_wn (by omega), Nat.add_sub_cancel]
  have e7 : nI L - 1 = nI (L - 1) := by
    obtain ⟨m, rfl⟩ : ∃ m, L = m + 1 := ⟨L - 1, by omega⟩
    rw [nI_pred, Nat.add_sub_cancel]
  have hwalk : ∀ (post : SX → Prop) (sz : Nat → Nat) (scr : Nat → Int32),
      (op c = 0 → wX_removeObject_108 post (nI c) (nI (pg h)) (nI T) (nI F) (nI (L - 1)) mem (cf_e kd) (cf_n (cf_u ct (pg h) (ct (pg h) - 1))) (cf_e (cf_u ow (8 * pg h + pl h) 0)) (cf_n pg) (cf_n pl) (cf_n sz) (cf_e (cf_u op c (pg h + 1))) (cf_n (cf_u cn c (cn c - 1))) scr) →
      (op c = pg h + 1 → wX_removeObject_108 post (nI c) (nI (pg h)) (nI T) (nI F) (nI (L - 1)) mem (cf_e kd) (cf_n (cf_u ct (pg h) (ct (pg h) - 1))) (cf_e (cf_u ow (8 * pg h + pl h) 0)) (cf_n pg) (cf_n pl) (cf_n sz) (cf_e op) (cf_n (cf_u cn c (cn c - 1))) scr) →
      (∀ q, op c = q + 1 → q ≠ pg h → wpX_moveOne (fun u => match u with
        | (f_pageTotal, f_freePages, f_liveCount, a_memory, a_pageKind, a_pageCount, a_owner, a_pageOf, a_placeOf, a_sizeOf, a_open, a_counts, a_scratch) => wX_removeObject_108 post (nI c) (nI q) f_pageTotal f_freePages f_liveCount a_memory a_pageKind a_pageCount a_owner a_pageOf a_placeOf a_sizeOf a_open a_counts a_scratch) (cf_X T F (L - 1) mem kd (cf_u ct (pg h) (ct (pg h) - 1)) (cf_u ow (8 * pg h + pl h) 0) pg pl sz op (cf_u cn c (cn c - 1)) scr) (nI q) (nI (pg h)) (nI (pl h))) →
      wpX_removeObject post (cf_X T F L mem kd ct ow pg pl sz op cn scr) (nI h) := by
    intro post sz scr K1 K2 K3
    refine ⟨i0, nm_r e1 ⟨i0, nm_r e2 ⟨i1, nm_r e3 ⟨i2, nm_r e4 ⟨i1, i1, nm_r e5 ⟨i3, i3, nm_r e6 (nm_r e7 ⟨i3, ?_⟩)⟩⟩⟩⟩⟩⟩
    cases ho : op c with
    | zero => exact nm_r (cf_re (by omega)) (br_t (by rw [ho]; rfl) ⟨i3, nm_r (cf_we (by omega)) (K1 ho)⟩)
    | succ q =>
      have hq := (cf_J_E J c hc).2 q ho
      refine nm_r (cf_rs ho (by omega)) (br_f (cf_nI_m1 (by omega)) ?_)
      refine pk_eq q (pg h) (fun z => ?_) (fun z => K3 q ho z) rfl rfl (by omega) (by omega)
      subst z
      exact K2 ho
  by_cases hop : op c = 0 ∨ op c = pg h + 1
  · by_cases h1 : ct (pg h) = 1
    · refine ⟨_, _, mem, _, _, _, _, _, _, _, cf_remove J hh hl hop (F' := F + 1) (kd' := cf_u kd (pg h) 0) (op' := cf_u op c 0) (fun _ => ⟨rfl, rfl, rfl⟩) (fun z => absurd h1 z), fun a _ _ _ k _ => rfl, fun post sz scr H => ?_⟩
      refine hwalk post sz scr (fun z => ?_) (fun z => ?_) (fun q z z2 => by omega)
      · refine cf_w108 hc (by omega) (by rw [cf_us]; omega) (fun _ => ?_) (fun z2 => ?_)
        · rw [cf_uu]; exact H
        · rw [cf_us] at z2; omega
      · refine cf_w108 hc (by omega) (by rw [cf_us]; omega) (fun _ => H) (fun z2 => ?_)
        rw [cf_us] at z2; omega
    · refine ⟨_, _, mem, _, _, _, _, _, _, _, cf_remove J hh hl hop (F' := F) (kd' := kd) (op' := cf_u op c (pg h + 1)) (fun z => absurd z h1) (fun _ => ⟨rfl, rfl, rfl⟩), fun a _ _ _ k _ => rfl, fun post sz scr H => ?_⟩
      refine hwalk post sz scr (fun z => ?_) (fun z => ?_) (fun q z z2 => by omega)
      · refine cf_w108 hc (by omega) (by rw [cf_us]; omega) (fun z2 => ?_) (fun _ => H)
        rw [cf_us] at z2; omega
      · refine cf_w108 hc (by omega) (by rw [cf_us]; omega) (fun z2 => ?_) (fun _ => ?_)
        · rw [cf_us] at z2; omega
        · rw [cf_uself z] at H; exact H
  · obtain ⟨q, ho⟩ : ∃ q, op c = q + 1 := ⟨op c - 1, by omega⟩
    have hqp : q ≠ pg h := by omega
    obtain ⟨q1, q2, q3, q4⟩ := (cf_J_E J c hc).2 q ho
    obtain ⟨-, -, q5, q6, q7⟩ := cf_J_D J q c (by omega) q2
    obtain ⟨t, ht, hn, hlast⟩ := cf_last (P := fun t => ow (8 * q + t) ≠ 0) (n := 8) (cf_q_lt (f := fun t => ow (8 * q + t)) (v := 0) (by have := cf_J_C J q (by omega); omega))
    obtain ⟨b, hb⟩ : ∃ b, ow (8 * q + t) = b + 1 := ⟨ow (8 * q + t) - 1, by omega⟩
    obtain ⟨b1, b2, b3, b4⟩ := cf_J_B J q t b (by omega) ht hb
    have htc := cf_place_lt J (by omega) ht hb q2
    have hlb : lv b = c + 1 := by
      have := (cf_J_A J b (lv b - 1) b1 (by omega)).2.2.1
      rw [b3, q2] at this
      omega
    have hmem : ∀ a, a < 64 → a ≠ h → lv a ≠ 0 → ∀ k, k < 2 ^ lv a → cf_wr mem (16 * pg h + pl h * 2 ^ (c + 1)) (2 ^ (c + 1)) (fun k => mem (16 * q + t * 2 ^ (c + 1) + k)) (16 * cf_u pg b (pg h) a + cf_u pl b (pl h) a * 2 ^ lv a + k) = mem (16 * pg a + pl a * 2 ^ lv a + k) := by
      intro a ha hah hla k hk
      by_cases e : a = b
      · subst e
        rw [cf_us, cf_us, hlb, cf_wr_in (by rw [← hlb]; exact hk), b3, b4]
      · rw [cf_uo e, cf_uo e, cf_wr_out]
        intro l hlt
        have := cf_apart J ha hh hah hla (by omega) hk (l := l) (by rw [hl]; exact hlt)
        rw [hl] at this
        exact this
    have ect : cf_u (cf_u (cf_u ct (pg h) (ct (pg h) - 1)) q (ct q - 1)) (pg h) (ct (pg h) - 1 + 1) = cf_u ct q (ct q - 1) := by
      rw [cf_ucomm hqp, cf_uu, cf_uself (f := ct) (by omega)]
    have hmove : ∀ (post : SX → Prop) (sz : Nat → Nat) (scr : Nat → Int32), post (cf_X T F (L - 1) (cf_wr mem (16 * pg h + pl h * 2 ^ (c + 1)) (2 ^ (c + 1)) (fun k => mem (16 * q + t * 2 ^ (c + 1) + k))) kd (cf_u ct q (ct q - 1)) (cf_u (cf_u (cf_u ow (8 * pg h + pl h) 0) (8 * q + t) 0) (8 * pg h + pl h) (b + 1)) (cf_u pg b (pg h)) (cf_u pl b (pl h)) sz op (cf_u cn c (cn c - 1)) scr) →
        wpX_moveOne post (cf_X T F (L - 1) mem kd (cf_u ct (pg h) (ct (pg h) - 1)) (cf_u ow (8 * pg h + pl h) 0) pg pl sz op (cf_u cn c (cn c - 1)) scr) (nI q) (nI (pg h)) (nI (pl h)) := by
      intro post sz scr H
      have kn : ∀ j, j < 8 → cf_u ow (8 * pg h + pl h) 0 (8 * q + j) = ow (8 * q + j) := fun j hj => cf_uo (by omega)
      refine ⟨8, ?_⟩
      refine cf_w4m (t := t) (by omega) ht (by rw [kn t ht]; exact hn) (fun j g1 g2 => by rw [kn j g2]; exact hlast j g1 g2) (by rw [kn t ht]; exact cf_ow_lt J (by omega) ht) ?_ (7 - t) 7 8 (by omega) (by omega) (by omega)
      refine cf_w31 hc (by omega) (by omega) hs htc b1 hqp (by rw [cf_uo hqp]; omega) (by rw [kn t ht]; exact hb) hk ?_
      rw [cf_uo hqp, cf_us, ect]
      exact H
    by_cases h1 : ct q = 1
    · refine ⟨_, _, _, _, _, _, _, _, _, _, cf_move J hh hl ho hqp ht hb (F' := F + 1) (kd' := cf_u kd q 0) (op' := cf_u op c 0) (fun _ => ⟨rfl, rfl, rfl⟩) (fun z => absurd h1 z), hmem, fun post sz scr H => ?_⟩
      refine hwalk post sz scr (fun z => by omega) (fun z => by omega) (fun q' z z2 => ?_)
      have : q' = q := by omega
      subst this
      refine hmove _ sz scr ?_
      refine cf_w108 hc (by omega) (by rw [cf_us]; omega) (fun _ => H) (fun z2 => ?_)
      rw [cf_us] at z2; omega
    · refine ⟨_, _, _, _, _, _, _, _, _, _, cf_move J hh hl ho hqp ht hb (F' := F) (kd' := kd) (op' := op) (fun z => absurd z h1) (fun _ => ⟨rfl, rfl, rfl⟩), hmem, fun post sz scr H => ?_⟩
      refine hwalk post sz scr (fun z => by omega) (fun z => by omega) (fun q' z z2 => ?_)
      have : q' = q := by omega
      subst this
      refine hmove _ sz scr ?_
      refine cf_w108 hc (by omega) (by rw [cf_us]; omega) (fun z2 => ?_) (fun _ => H)
      rw [cf_us] at z2; omega
end
end
section
/-! the relation -/
abbrev cf_Y (T : Nat) (sz : Nat → Nat) (wd : Nat → Int32) : SY := (nI T, cf_n sz, wd)
/-- the words: each object's in the component's memory are those of the reference, which holds 0 beyond its size -/
def cf_M (mem : Nat → Int32) (pg pl sz : Nat → Nat) (wd : Nat → Int32) : Prop :=
  ∀ h, h < 64 → sz h ≤ 16 ∧ (∀ k, k < sz h → mem (16 * pg h + pl h * 2 ^ cf_l (sz h) + k) = wd (16 * h + k)) ∧ (∀ k, sz h ≤ k → k < 16 → wd (16 * h + k) = 0)
def cf_R (T F L : Nat) (mem : Nat → Int32) (kd ct ow pg pl sz op cn : Nat → Nat) (wd : Nat → Int32) : Prop :=
  cf_J T F L kd ct ow pg pl op cn (fun h => cf_l (sz h)) ∧ cf_M mem pg pl sz wd
def i_Rel (_ : Nat) (u : SX) (v : SY) : Prop := ∃ (T F L : Nat) (mem : Nat → Int32) (kd ct ow pg pl sz op cn : Nat → Nat) (scr wd : Nat → Int32),
  u = (cf_X T F L mem kd ct ow pg pl sz op cn scr) ∧ v = cf_Y T sz wd ∧ cf_R T F L mem kd ct ow pg pl sz op cn wd
theorem i_up {k : Nat} {u : SX} {v : SY} (h : i_Rel k u v) : i_Rel (k + 4) u v := h
theorem cf_el {P : SX → SY → Prop} (H : ∀ (T F L : Nat) (mem : Nat → Int32) (kd ct ow pg pl sz op cn : Nat → Nat) (scr wd : Nat → Int32), cf_R T F L mem kd ct ow pg pl sz op cn wd → P (cf_X T F L mem kd ct ow pg pl sz op cn scr) (cf_Y T sz wd))
    {k : Nat} {u : SX} {v : SY} (I : i_Rel k u v) : P u v := by
  obtain ⟨T, F, L, mem, kd, ct, ow, pg, pl, sz, op, cn, scr, wd, rfl, rfl, h⟩ := I
  exact H _ _ _ _ _ _ _ _ _ _ _ _ _ _ h
theorem cf_mk {T F L : Nat} {mem : Nat → Int32} {kd ct ow pg pl sz op cn : Nat → Nat} {scr : Nat → Int32} {wd : Nat → Int32} {k : Nat} (h : cf_R T F L mem kd ct ow pg pl sz op cn wd) : i_Rel k (cf_X T F L mem kd ct ow pg pl sz op cn scr) (cf_Y T sz wd) :=
  ⟨_, _, _, _, _, _, _, _, _, _, _, _, _, _, rfl, rfl, h⟩
section
variable {T F L : Nat} {mem : Nat → Int32} {kd ct ow pg pl sz op cn : Nat → Nat} {scr : Nat → Int32} {wd : Nat → Int32} {lv : Nat → Nat}
theorem cf_M_set {mem' wd' : Nat → Int32} {pg' pl' sz' : Nat → Nat} (M : cf_M mem pg pl sz wd) {h : Nat}
    (ho : ∀ a, a < 64 → a ≠ h → sz' a = sz a ∧ (∀ k, k < sz a → mem' (16 * pg' a + pl' a * 2 ^ cf_l (sz a) + k) = mem (16 * pg a + pl a * 2 ^ cf_l (sz a) + k)) ∧ ∀ k, k < 16 → wd' (16 * a + k) = wd (16 * a + k))
    (hs : sz' h ≤ 16 ∧ (∀ k, k < sz' h → mem' (16 * pg' h + pl' h * 2 ^ cf_l (sz' h) + k) = wd' (16 * h + k)) ∧ ∀ k, sz' h ≤ k → k < 16 → wd' (16 * h + k) = 0) : cf_M mem' pg' pl' sz' wd' := by
  intro a ha
  by_cases e : a = h
  · subst e; exact hs
  · obtain ⟨e1, e2, e3⟩ := ho a ha e
    obtain ⟨m1, m2, m3⟩ := M a ha
    rw [e1]
    exact ⟨m1, fun k hk => by rw [e2 k hk, e3 k (by omega)]; exact m2 k hk, fun k h1 h2 => by rw [e3 k h2]; exact m3 k h1 h2⟩
theorem cf_fit {x k : Nat} (h16 : x ≤ 16) (hk : k < x) : k < 2 ^ cf_l x := Nat.lt_of_lt_of_le hk (cf_l_fit x h16)
/-- words written into one object's place touch no other's -/
theorem cf_other (J : cf_J T F L kd ct ow pg pl op cn (fun h => cf_l (sz h))) (M : cf_M mem pg pl sz wd) {h lo n : Nat} {g : Nat → Int32} (hh : h < 64) (h0 : 0 < sz h) (hn : n = 0 ∨ lo + n ≤ 2 ^ cf_l (sz h)) {a : Nat} (ha : a < 64) (hah : a ≠ h) {k : Nat} (hk : k < sz a) :
    cf_wr mem (16 * pg h + pl h * 2 ^ cf_l (sz h) + lo) n g (16 * pg a + pl a * 2 ^ cf_l (sz a) + k) = mem (16 * pg a + pl a * 2 ^ cf_l (sz a) + k) := by
  refine cf_wr_out fun l hl => ?_
  have e := cf_apart J ha hh hah (show cf_l (sz a) ≠ 0 by rw [Ne, cf_l_0]; omega) (show cf_l (sz h) ≠ 0 by rw [Ne, cf_l_0]; omega) (cf_fit (M a ha).1 hk) (l := lo + l) (by rcases hn with e | e <;> omega)
  omega
theorem cf_wd_other {h a k n : Nat} {g : Nat → Int32} (hn : n ≤ 16) (hah : a ≠ h) (hk : k < 16) : cf_wr wd (16 * h) n g (16 * a + k) = wd (16 * a + k) :=
  cf_wr_out fun l hl => by omega
theorem cf_goodX {post : Int32 → Prop} {h : Nat} (hh : h < 64) (h0 : 0 < sz h) (h16 : sz h ≤ 16) (H : post 1) : wpX_isGood post (cf_X T F L mem kd ct ow pg pl sz op cn scr) (nI h) := by
  refine br_f (nI_pos (by omega)) (br_f (nI_ge (b := 64) hh (by decide)) ⟨vp_in_nI hh (by omega), br_f ?_ H⟩)
  rw [cf_rn (by omega)]
  exact nI_nle h0 (by omega)
theorem cf_goodY {post : Int32 → Prop} {h : Nat} (hh : h < 64) (h0 : 0 < sz h) (h16 : sz h ≤ 16) (H : post 0) : wpY_bad post (cf_Y T sz wd) (nI h) := by
  refine br_f (nI_pos (by omega)) (br_f (nI_nlt (b := h) (a := 63) (by omega) (by decide)) ⟨vp_in_nI hh (by omega), br_f ?_ H⟩)
  rw [cf_rn (by omega)]
  exact nI_ne0 h0 (by omega)
theorem cf_badX {post : Int32 → Prop} {x : Int32} (hn : ¬ ∃ h, h < 64 ∧ x = nI h ∧ 0 < sz h) (H : post 0) : wpX_isGood post (cf_X T F L mem kd ct ow pg pl sz op cn scr) x := by
  rcases pk_ix x (n := 64) (by decide) with h | h | ⟨j, hj, rfl⟩
  · exact br_t h H
  · exact br_c (fun _ => H) (fun _ => br_t h H)
  · have e : sz j = 0 := Classical.byContradiction fun z => hn ⟨j, hj, rfl, by omega⟩
    refine br_f (nI_pos (by omega)) (br_f (nI_ge (b := 64) hj (by decide)) ⟨vp_in_nI hj (by omega), br_t ?_ H⟩)
    rw [cf_rn (by omega), e]
    exact Int32.le_refl _
theorem cf_badY {post : Int32 → Prop} {x : Int32} (hn : ¬ ∃ h, h < 64 ∧ x = nI h ∧ 0 < sz h) (H : post 1) : wpY_bad post (cf_Y T sz wd) x := by
  rcases pk_ix x (n := 64) (by decide) with h | h | ⟨j, hj, rfl⟩
  · exact br_t h H
  · refine br_c (fun _ => H) (fun _ => br_t ?_ H)
    have h63 : (63 : Int32) < nI 64 := by decide
    exact Int32.lt_of_lt_of_le h63 h
  · have e : sz j = 0 := Classical.byContradiction fun z => hn ⟨j, hj, rfl, by omega⟩
    refine br_f (nI_pos (by omega)) (br_f (nI_nlt (b := j) (a := 63) (by omega) (by decide)) ⟨vp_in_nI hj (by omega), br_t ?_ H⟩)
    rw [cf_rn (by omega), e]
    rfl
theorem cf_baseW {post : Int32 → Prop} (J : cf_J T F L kd ct ow pg pl op cn lv) {h : Nat} (hh : h < 64) (hl : lv h ≠ 0) (H : post (nI (16 * pg h + pl h * 2 ^ lv h))) : wpX_baseOf post (cf_X T F L mem kd ct ow pg pl sz op cn scr) (nI h) := by
  obtain ⟨c, ec⟩ : ∃ c, lv h = c + 1 := ⟨lv h - 1, by omega⟩
  obtain ⟨a1, a2, a3, a4, a5⟩ := cf_J_A J h c hh ec
  have hT := cf_J_T J
  have hpp := cf_p_pos c a1
  have s1 := cf_slot c a1 (pl h) a4
  have i0 : vp_in (nI h) 64 := vp_in_nI hh (by omega)
  have e1 : cf_n pg (nI h).toNatClampNeg = nI (pg h) := cf_rn (by omega)
  have e : 16 * cf_n pg (nI h).toNatClampNeg + (cf_n pl (nI h).toNatClampNeg <<< ((cf_e kd (cf_n pg (nI h).toNatClampNeg).toNatClampNeg + 1) &&& 31)) = nI (16 * pg h + pl h * 2 ^ lv h) := by
    rw [e1, cf_rs a3 (by omega), cf_rn (by omega), nI_1, pk_shlN _ (c + 1) (s_l (c + 1) (by omega)) (by have := Nat.two_pow_pos (c + 1); omega), cf_i16, ec]
  exact ⟨i0, i0, i0, by rw [e1]; exact vp_in_nI (by omega) (by omega), Eq.mpr (congrArg post e) H⟩
theorem cf_wordW {post : Int32 → Prop} (J : cf_J T F L kd ct ow pg pl op cn lv) {h k : Nat} (hh : h < 64) (hl : lv h ≠ 0) (hk : k < 2 ^ lv h) (H : post (mem (16 * pg h + pl h * 2 ^ lv h + k))) : wpX_word post (cf_X T F L mem kd ct ow pg pl sz op cn scr) (nI h) (nI k) := by
  have hw := cf_within J hh hl hk
  unfold wpX_word
  refine cf_baseW J hh hl ?_
  refine ⟨?_, ?_⟩
  · rw [nI_add]; exact vp_in_nI hw (by omega)
  · rw [nI_add, nI_clamp (by omega)]; exact H
theorem cf_sizeW {post : Int32 → Prop} {x : Int32} (H0 : ¬ (∃ s, 1 ≤ s ∧ s ≤ 16 ∧ x = nI s) → post 0) (H1 : ∀ s, 1 ≤ s → s ≤ 16 → x = nI s → post 1) : wpX_isSize post x := by
  by_cases h : ∃ s, 1 ≤ s ∧ s ≤ 16 ∧ x = nI s
  · obtain ⟨s, h1, h2, rfl⟩ := h
    refine br_f (nI_nlt (b := 1) h1 (by omega)) (br_f (nI_nlt (a := 16) h2 (by decide)) (H1 s h1 h2 rfl))
  · refine br_c (fun _ => H0 h) (fun g1 => br_c (fun _ => H0 h) (fun g2 => absurd ?_ h))
    obtain ⟨s, hs, rfl⟩ := nI_of (x := x) (fun z => g1 (Int32.lt_trans z (by decide)))
    have k1 : ¬ s < 1 := fun z => g1 (nI_lt (b := 1) z (by decide))
    have k2 : ¬ 16 < s := fun z => g2 (nI_lt (a := 16) z hs)
    exact ⟨s, by omega, by omega, rfl⟩
theorem cf_kindX {post : Int32 → Prop} {s : Nat} (h1 : 1 ≤ s) (h2 : s ≤ 16) (H : post (nI (cf_l s - 1))) : wpX_kindOf post (nI s) := by
  unfold cf_l at H
  rw [if_neg (by omega)] at H
  refine pk_lt 2 s (fun z => ?_) (fun z => ?_)
  · rw [if_neg (by omega)] at H
    refine pk_lt 4 s (fun z => ?_) (fun z => ?_)
    · rw [if_neg (by omega)] at H
      refine pk_lt 8 s (fun z => ?_) (fun z => ?_)
      · rw [if_neg (by omega)] at H; exact H
      · rw [if_pos (by omega)] at H; exact H
    · rw [if_pos (by omega)] at H; exact H
  · rw [if_pos (by omega)] at H; exact H
theorem cf_kindY {post : Int32 → Prop} {v : SY} {s : Nat} (h1 : 1 ≤ s) (h2 : s ≤ 16) (H : post (nI (cf_l s - 1))) : wpY_kindOf post v (nI s) := by
  obtain ⟨y1, y2, y3⟩ := v
  unfold cf_l at H
  rw [if_neg (by omega)] at H
  refine pk_le 3 s (fun z => ?_) (fun z => ?_)
  · rw [if_neg (by omega)] at H
    refine pk_le 5 s (fun z => ?_) (fun z => ?_)
    · rw [if_neg (by omega)] at H
      refine pk_le 9 s (fun z => ?_) (fun z => ?_)
      · rw [if_neg (by omega)] at H; exact H
      · rw [if_pos (by omega)] at H; exact H
    · rw [if_pos (by omega)] at H; exact H
  · rw [if_pos (by omega)] at H; exact H
theorem cf_isKindW {post : Int32 → Prop} {x : Int32} (H0 : ¬ (∃ c, c < 4 ∧ x = nI c) → post 0) (H1 : ∀ c, c < 4 → x = nI c → post 1) : wpX_isKind post x := by
  rcases pk_ix x (n := 4) (by decide) with h | h | ⟨j, hj, rfl⟩
  · refine br_t h (H0 fun z => ?_)
    obtain ⟨c, hc, rfl⟩ := z
    exact nI_pos (by omega) h
  · refine br_c (fun g => H0 fun z => ?_) (fun _ => br_t (Int32.lt_of_lt_of_le (by decide) h) (H0 fun z => ?_))
    · obtain ⟨c, hc, rfl⟩ := z
      exact nI_ge hc (by decide) h
    · obtain ⟨c, hc, rfl⟩ := z
      exact nI_ge hc (by decide) h
  · exact br_f (nI_pos (by omega)) (br_f (nI_nlt (a := 3) (by omega) (by decide)) (H1 j hj rfl))
end
end
section
/-! the reference's counts -/
section
variable {T : Nat} {sz : Nat → Nat} {wd : Nat → Int32} {post : Int32 → Prop}
theorem cf_yalive {c : Nat} (hc : c < 4) (h16 : ∀ h, h < 64 → sz h ≤ 16) (H : post (nI (cf_q (fun h => cf_l (sz h)) (c + 1) 64))) :
    ∀ d i n, i + d = 64 → d < n → wY_alive_4 post (nI c) (nI T) (cf_n sz) wd n (nI (cf_q (fun h => cf_l (sz h)) (c + 1) i)) (nI i) := by
  intro d
  induction d with
  | zero =>
    intro i n hi hd
    have : i = 64 := by omega
    subst this
    cases n with
    | zero => omega
    | succ n => exact br_t (nI_le (a := 64) (b := 64) (by omega) (by decide)) H
  | succ d ih =>
    intro i n hi hd
    cases n with
    | zero => omega
    | succ n =>
      have i0 : vp_in (nI i) 64 := vp_in_nI (by omega) (by omega)
      have K := ih (i + 1) n (by omega) (by omega)
      have hq := cf_q_le (fun h => cf_l (sz h)) (c + 1) i
      have es : cf_q (fun h => cf_l (sz h)) (c + 1) (i + 1) = cf_q (fun h => cf_l (sz h)) (c + 1) i + (if cf_l (sz i) = c + 1 then 1 else 0) := rfl
      have h6 := h16 i (by omega)
      refine br_f (nI_ge (b := 64) (by omega) (by decide)) ⟨i0, ?_⟩
      refine pk_le (sz i) 0 (fun z => ?_) (fun z => ⟨i0, ?_⟩) (cf_rn (by omega)) rfl (by omega) (by omega)
      · have e0 : cf_l (sz i) = 0 := (cf_l_0 _).mpr (by omega)
        rw [es, e0, if_neg (by omega), Nat.add_zero] at K
        exact nm_r (nI_1 i) K
      · rw [cf_rn (by omega)]
        have l0 : cf_l (sz i) ≠ 0 := by rw [Ne, cf_l_0]; omega
        have l4 := cf_l_le (sz i)
        refine cf_kindY (by omega) h6 (pk_eq (cf_l (sz i) - 1) c (fun z => ?_) (fun z => ?_) rfl rfl (by omega) (by omega))
        · rw [es, if_pos (by omega)] at K
          exact nm_r (nI_1 _) (nm_r (nI_1 i) K)
        · rw [es, if_neg (by omega), Nat.add_zero] at K
          exact nm_r (nI_1 i) K
theorem cf_yaliveW {c : Nat} (hc : c < 4) (h16 : ∀ h, h < 64 → sz h ≤ 16) (H : post (nI (cf_q (fun h => cf_l (sz h)) (c + 1) 64))) : wpY_alive post (cf_Y T sz wd) (nI c) :=
  ⟨65, cf_yalive hc h16 H 64 0 65 (by omega) (by omega)⟩
theorem cf_ylive (h16 : ∀ h, h < 64 → sz h ≤ 16) {L : Nat} (hL : L + cf_q (fun h => cf_l (sz h)) 0 64 = 64) (H : post (nI L)) :
    ∀ d i n x, i + d = 64 → d < n → x + cf_q (fun h => cf_l (sz h)) 0 i = i → wY_live_4 post (nI T) (cf_n sz) wd n (nI x) (nI i) := by
  intro d
  induction d with
  | zero =>
    intro i n x hi hd hx
    have : i = 64 := by omega
    subst this
    have : x = L := by omega
    subst this
    cases n with
    | zero => omega
    | succ n => exact br_t (nI_le (a := 64) (b := 64) (by omega) (by decide)) H
  | succ d ih =>
    intro i n x hi hd hx
    cases n with
    | zero => omega
    | succ n =>
      have i0 : vp_in (nI i) 64 := vp_in_nI (by omega) (by omega)
      have es : cf_q (fun h => cf_l (sz h)) 0 (i + 1) = cf_q (fun h => cf_l (sz h)) 0 i + (if cf_l (sz i) = 0 then 1 else 0) := rfl
      have h6 := h16 i (by omega)
      refine br_f (nI_ge (b := 64) (by omega) (by decide)) ⟨i0, ?_⟩
      refine pk_le (sz i) 0 (fun z => ?_) (fun z => ?_) (cf_rn (by omega)) rfl (by omega) (by omega)
      · have e0 : cf_l (sz i) = 0 := (cf_l_0 _).mpr (by omega)
        rw [if_pos e0] at es
        exact nm_r (nI_1 i) (ih (i + 1) n x (by omega) (by omega) (by omega))
      · have l0 : cf_l (sz i) ≠ 0 := by rw [Ne, cf_l_0]; omega
        rw [if_neg l0] at es
        exact nm_r (nI_1 x) (nm_r (nI_1 i) (ih (i + 1) n (x + 1) (by omega) (by omega) (by omega)))
/-- one kind of needs: g c is the count as it would be -/
theorem cf_yneed1 {x1 x2 x3 x4 : Int32} {c g s n : Nat} (hc : c < 4) (h16 : ∀ h, h < 64 → sz h ≤ 16) (hg : g ≤ 1000) (hs : s ≤ 100000)
    (hy : ∀ y, y = (if nI c = x1 then nI (cf_q (fun h => cf_l (sz h)) (c + 1) 64) + x2 else nI (cf_q (fun h => cf_l (sz h)) (c + 1) 64)) → (if nI c = x3 then y - x4 else y) = nI g)
    (K : wY_needs_6 post x1 x2 x3 x4 (nI T) (cf_n sz) wd n (nI (s + (g + cf_p c - 1) / cf_p c)) (nI (c + 1))) :
    wY_needs_6 post x1 x2 x3 x4 (nI T) (cf_n sz) wd (n + 1) (nI s) (nI c) := by
  have hpp := cf_p_pos c hc
  have K61 : wY_needs_61 post (wY_needs_6 post x1 x2 x3 x4 (nI T) (cf_n sz) wd n) x1 x2 x3 x4 (nI s) (nI c) (nI g) (nI (cf_p c)) (nI T) (cf_n sz) wd := by
    have e : nI s + (nI g + nI (cf_p c) - 1) / nI (cf_p c) = nI (s + (g + cf_p c - 1) / cf_p c) := by
      rw [nI_add, show (1 : Int32) = nI 1 from rfl, pk_sub (by omega), pk_div (by omega) hpp.1 (by omega), nI_add]
    exact ⟨nI_ne0 hpp.1 (by omega), nm_r e (nm_r (nI_1 c) K)⟩
  have K45 : wY_needs_45 post (wY_needs_6 post x1 x2 x3 x4 (nI T) (cf_n sz) wd n) x1 x2 x3 x4 (nI s) (nI c) (nI g) (nI T) (cf_n sz) wd :=
    nm_r (cf_cap c hc) (br_t (nI_le (a := 1) hpp.1 (by omega)) K61)
  have K32 : ∀ y, y = (if nI c = x1 then nI (cf_q (fun h => cf_l (sz h)) (c + 1) 64) + x2 else nI (cf_q (fun h => cf_l (sz h)) (c + 1) 64)) → wY_needs_32 post (wY_needs_6 post x1 x2 x3 x4 (nI T) (cf_n sz) wd n) x1 x2 x3 x4 (nI s) (nI c) y (nI T) (cf_n sz) wd := by
    intro y ey
    have e := hy y ey
    refine br_c (fun z => ?_) (fun z => ?_)
    · rw [if_pos z] at e
      exact nm_r e K45
    · rw [if_neg z] at e
      rw [e]
      exact K45
  refine br_f (nI_ge (b := 4) hc (by decide)) (cf_yaliveW hc h16 (br_c (fun z => ?_) (fun z => ?_)))
  · rw [if_pos z] at K32
    exact fun y ey => K32 y ey
  · rw [if_neg z] at K32
    exact K32 _ rfl
theorem cf_yneeds {x1 x2 x3 x4 : Int32} {g : Nat → Nat} (h16 : ∀ h, h < 64 → sz h ≤ 16) (hg : ∀ c, c < 4 → g c ≤ 1000)
    (hy : ∀ c, c < 4 → ∀ y, y = (if nI c = x1 then nI (cf_q (fun h => cf_l (sz h)) (c + 1) 64) + x2 else nI (cf_q (fun h => cf_l (sz h)) (c + 1) 64)) → (if nI c = x3 then y - x4 else y) = nI (g c))
    (H : post (nI (cf_nd g))) : wpY_needs post (cf_Y T sz wd) x1 x2 x3 x4 := by
  have g0 := hg 0 (by omega)
  have g1 := hg 1 (by omega)
  have g2 := hg 2 (by omega)
  have g3 := hg 3 (by omega)
  refine ⟨5, ?_⟩
  refine cf_yneed1 (c := 0) (s := 0) (by omega) h16 g0 (by omega) (hy 0 (by omega)) ?_
  refine cf_yneed1 (c := 1) (by omega) h16 g1 ?_ (hy 1 (by omega)) ?_
  · rw [cf_p0]; omega
  refine cf_yneed1 (c := 2) (by omega) h16 g2 ?_ (hy 2 (by omega)) ?_
  · rw [cf_p0, cf_p1]; omega
  refine cf_yneed1 (c := 3) (by omega) h16 g3 ?_ (hy 3 (by omega)) ?_
  · rw [cf_p0, cf_p1, cf_p2]; omega
  have e : 0 + (g 0 + cf_p 0 - 1) / cf_p 0 + (g 1 + cf_p 1 - 1) / cf_p 1 + (g 2 + cf_p 2 - 1) / cf_p 2 + (g 3 + cf_p 3 - 1) / cf_p 3 = cf_nd g := by
    rw [cf_p0, cf_p1, cf_p2, cf_p3]
    show _ = (g 0 + 7) / 8 + (g 1 + 3) / 4 + (g 2 + 1) / 2 + g 3
    omega
  rw [e]
  exact br_t (nI_le (a := 4) (b := 4) (by omega) (by decide)) H
end
section
variable {T F L : Nat} {mem : Nat → Int32} {kd ct ow pg pl sz op cn : Nat → Nat} {scr : Nat → Int32} {wd : Nat → Int32} {post : Int32 → Prop}
theorem cf_R_16 (R : cf_R T F L mem kd ct ow pg pl sz op cn wd) : ∀ h, h < 64 → sz h ≤ 16 := fun h hh => (R.2 h hh).1
theorem cf_R_cn (R : cf_R T F L mem kd ct ow pg pl sz op cn wd) {c : Nat} (hc : c < 4) : cf_q (fun h => cf_l (sz h)) (c + 1) 64 = cn c := (cf_J_G R.1 c hc).symm
theorem cf_cn_le (R : cf_R T F L mem kd ct ow pg pl sz op cn wd) {c : Nat} (hc : c < 4) : cn c ≤ 64 := by
  rw [cf_J_G R.1 c hc]
  exact cf_q_le _ _ _
theorem cf_nd_congr {f g : Nat → Nat} (h : ∀ c, c < 4 → f c = g c) : cf_nd f = cf_nd g := by
  unfold cf_nd
  rw [h 0 (by omega), h 1 (by omega), h 2 (by omega), h 3 (by omega)]
theorem cf_needs0 (R : cf_R T F L mem kd ct ow pg pl sz op cn wd) (H : post (nI (cf_nd cn))) : wpY_needs post (cf_Y T sz wd) (-1) 0 (-1) 0 := by
  refine cf_yneeds (g := cn) (cf_R_16 R) (fun c hc => by have := cf_cn_le R hc; omega) (fun c hc y ey => ?_) H
  have hn : ¬ nI c = -1 := cf_nI_m1 (by omega)
  rw [if_neg hn, cf_R_cn R hc] at ey
  rw [if_neg hn, ey]
theorem cf_needs1 (R : cf_R T F L mem kd ct ow pg pl sz op cn wd) {c m : Nat} (hc : c < 4) (hm : m ≤ 100) (H : post (nI (cf_nd (cf_u cn c (cn c + m))))) : wpY_needs post (cf_Y T sz wd) (nI c) (nI m) (-1) 0 := by
  refine cf_yneeds (g := cf_u cn c (cn c + m)) (cf_R_16 R) (fun d hd => ?_) (fun d hd y ey => ?_) H
  · have := cf_cn_le R hd
    have := cf_cn_le R hc
    unfold cf_u
    split <;> omega
  · have hn : ¬ nI d = -1 := cf_nI_m1 (by omega)
    rw [cf_R_cn R hd] at ey
    rw [if_neg hn, ey]
    by_cases e : d = c
    · subst e
      rw [if_pos rfl, cf_us, nI_add]
    · rw [if_neg (fun z => e ((nI_eq (by omega) (by omega)).mp z)), cf_uo e]
theorem cf_needs2 (R : cf_R T F L mem kd ct ow pg pl sz op cn wd) {c d : Nat} (hc : c < 4) (hd : d < 4) (hpos : 0 < cn d) {g : Nat → Nat} (hg : g = if c = d then cn else cf_u (cf_u cn d (cn d - 1)) c (cn c + 1)) (H : post (nI (cf_nd g))) : wpY_needs post (cf_Y T sz wd) (nI c) 1 (nI d) 1 := by
  subst hg
  have h1c := cf_cn_le R hc
  have h1d := cf_cn_le R hd
  refine cf_yneeds (g := if c = d then cn else cf_u (cf_u cn d (cn d - 1)) c (cn c + 1)) (cf_R_16 R) (fun e he => ?_) (fun e he y ey => ?_) H
  · have := cf_cn_le R he
    split
    · omega
    · unfold cf_u
      repeat' split
      all_goals omega
  · rw [cf_R_cn R he, nI_1] at ey
    have q1 : (nI e = nI c) = (e = c) := propext (nI_eq (by omega) (by omega))
    have q2 : (nI e = nI d) = (e = d) := propext (nI_eq (by omega) (by omega))
    simp only [q1] at ey
    simp only [q2]
    by_cases e1 : c = d
    · subst e1
      rw [if_pos rfl]
      by_cases e2 : e = c
      · rw [if_pos e2] at ey
        rw [if_pos e2, ey, nI_pred]
      · rw [if_neg e2] at ey
        rw [if_neg e2, ey]
    · rw [if_neg e1]
      by_cases e2 : e = c
      · subst e2
        rw [if_pos rfl] at ey
        rw [if_neg e1, ey, cf_us]
      · rw [if_neg e2] at ey
        rw [cf_uo e2]
        by_cases e3 : e = d
        · subst e3
          rw [if_pos rfl, ey, cf_us]
          obtain ⟨m, hm⟩ : ∃ m, cn e = m + 1 := ⟨cn e - 1, by omega⟩
          rw [hm, nI_pred, Nat.add_sub_cancel]
        · rw [if_neg e3, ey, cf_uo e3]
end
end
section
/-! the methods that only read -/
theorem cf_10 : ¬ (1 : Int32) = 0 := by decide
theorem i_vc_pages {k : Nat} {u : SX} {v : SY} (I : i_Rel k u v) (hk : k + 4 ≤ 2049) : wpX_pages (fun r => wpY_pages (fun r' => r' = r ∧ i_Rel (k + 4) u v) v) u := by
  refine cf_el (P := fun u v => wpX_pages (fun r => wpY_pages (fun r' => r' = r ∧ i_Rel (k + 4) u v) v) u) ?_ I
  intro T F L mem kd ct ow pg pl sz op cn scr wd R
  exact ⟨rfl, cf_mk R⟩
theorem i_vc_size {k : Nat} {u : SX} {v : SY} (I : i_Rel k u v) (hk : k + 4 ≤ 2049) (v1 : Int32) : wpX_size (fun r => wpY_size (fun r' => r' = r ∧ i_Rel (k + 4) u v) v v1) u v1 := by
  refine cf_el (P := fun u v => wpX_size (fun r => wpY_size (fun r' => r' = r ∧ i_Rel (k + 4) u v) v v1) u v1) ?_ I
  intro T F L mem kd ct ow pg pl sz op cn scr wd R
  by_cases hg : ∃ h, h < 64 ∧ v1 = nI h ∧ 0 < sz h
  · obtain ⟨h, hh, rfl, h0⟩ := hg
    have h16 := cf_R_16 R h hh
    have i0 : vp_in (nI h) 64 := vp_in_nI hh (by omega)
    unfold wpX_size
    refine cf_goodX hh h0 h16 ?_
    refine br_f cf_10 ⟨i0, ?_⟩
    unfold wpY_size
    refine cf_goodY hh h0 h16 ?_
    exact br_t rfl ⟨i0, rfl, cf_mk R⟩
  · unfold wpX_size
    refine cf_badX hg ?_
    refine br_t rfl ?_
    unfold wpY_size
    refine cf_badY hg ?_
    exact br_f cf_10 ⟨rfl, cf_mk R⟩
theorem i_vc_read {k : Nat} {u : SX} {v : SY} (I : i_Rel k u v) (hk : k + 4 ≤ 2049) (v1 : Int32) (v2 : Int32) : wpX_read (fun r => wpY_read (fun r' => r' = r ∧ i_Rel (k + 4) u v) v v1 v2) u v1 v2 := by
  refine cf_el (P := fun u v => wpX_read (fun r => wpY_read (fun r' => r' = r ∧ i_Rel (k + 4) u v) v v1 v2) u v1 v2) ?_ I
  intro T F L mem kd ct ow pg pl sz op cn scr wd R
  by_cases hg : ∃ h, h < 64 ∧ v1 = nI h ∧ 0 < sz h
  · obtain ⟨h, hh, rfl, h0⟩ := hg
    have h16 := cf_R_16 R h hh
    have i0 : vp_in (nI h) 64 := vp_in_nI hh (by omega)
    unfold wpX_read
    refine cf_goodX hh h0 h16 ?_
    refine br_f cf_10 (br_c (fun z => ?_) (fun z => ⟨i0, ?_⟩))
    · unfold wpY_read
      refine cf_goodY hh h0 h16 ?_
      exact br_t rfl (br_t z ⟨rfl, cf_mk R⟩)
    · obtain ⟨w, hw, rfl⟩ := nI_of z
      refine pk_le (sz h) w (fun g => ?_) (fun g => ?_) (cf_rn (by omega)) rfl (by omega) hw
      · unfold wpY_read
        refine cf_goodY hh h0 h16 ?_
        refine br_t rfl (br_f z ⟨i0, br_f ?_ ⟨rfl, cf_mk R⟩⟩)
        rw [cf_rn (by omega)]
        exact nI_nlt g hw
      · refine cf_wordW R.1 hh (show cf_l (sz h) ≠ 0 by rw [Ne, cf_l_0]; omega) (cf_fit h16 g) ?_
        unfold wpY_read
        refine cf_goodY hh h0 h16 ?_
        refine br_t rfl (br_f z ⟨i0, br_t ?_ ⟨?_, ?_, cf_mk R⟩⟩)
        · rw [cf_rn (by omega)]
          exact nI_lt g (by omega)
        · rw [cf_i16]; exact vp_in_nI (by omega) (by omega)
        · rw [cf_i16, nI_clamp (by omega)]
          exact ((R.2 h hh).2.1 w g).symm
  · unfold wpX_read
    refine cf_badX hg ?_
    refine br_t rfl ?_
    unfold wpY_read
    refine cf_badY hg ?_
    exact br_f cf_10 ⟨rfl, cf_mk R⟩
theorem i_vc_live {k : Nat} {u : SX} {v : SY} (I : i_Rel k u v) (hk : k + 4 ≤ 2049) : wpX_live (fun r => wpY_live (fun r' => r' = r ∧ i_Rel (k + 4) u v) v) u := by
  refine cf_el (P := fun u v => wpX_live (fun r => wpY_live (fun r' => r' = r ∧ i_Rel (k + 4) u v) v) u) ?_ I
  intro T F L mem kd ct ow pg pl sz op cn scr wd R
  exact ⟨65, cf_ylive (cf_R_16 R) (cf_J_L R.1) ⟨rfl, cf_mk R⟩ 64 0 65 0 (by omega) (by omega) rfl⟩
theorem cf_kindN {x : Int32} {A B : Prop} (hn : ¬ ∃ c, c < 4 ∧ x = nI c) (a : A) : (x < 0 → A) ∧ (¬ x < 0 → ((x ≤ 3 → B) ∧ (¬ x ≤ 3 → A))) := by
  refine br_c (fun _ => a) (fun z => br_c (fun z2 => absurd ?_ hn) (fun _ => a))
  obtain ⟨c, hc, rfl⟩ := nI_of2 (M := 3) (n := 3) (by decide) z z2
  exact ⟨c, by omega, rfl⟩
theorem i_vc_liveIn {k : Nat} {u : SX} {v : SY} (I : i_Rel k u v) (hk : k + 4 ≤ 2049) (v1 : Int32) : wpX_liveIn (fun r => wpY_liveIn (fun r' => r' = r ∧ i_Rel (k + 4) u v) v v1) u v1 := by
  refine cf_el (P := fun u v => wpX_liveIn (fun r => wpY_liveIn (fun r' => r' = r ∧ i_Rel (k + 4) u v) v v1) u v1) ?_ I
  intro T F L mem kd ct ow pg pl sz op cn scr wd R
  unfold wpX_liveIn
  refine cf_isKindW ?_ ?_
  · intro hn
    exact br_t rfl (cf_kindN hn ⟨rfl, cf_mk R⟩)
  · intro c hc e
    subst e
    refine br_f cf_10 ?_
    refine ⟨vp_in_nI hc (by omega), br_f (nI_pos (by omega)) (br_t (nI_le (b := 3) (by omega) (by decide)) ?_)⟩
    refine cf_yaliveW hc (cf_R_16 R) ⟨?_, cf_mk R⟩
    rw [cf_R_cn R hc, cf_rn (by omega)]
theorem i_vc_needed {k : Nat} {u : SX} {v : SY} (I : i_Rel k u v) (hk : k + 4 ≤ 2049) : wpX_needed (fun r => wpY_needed (fun r' => r' = r ∧ i_Rel (k + 4) u v) v) u := by
  refine cf_el (P := fun u v => wpX_needed (fun r => wpY_needed (fun r' => r' = r ∧ i_Rel (k + 4) u v) v) u) ?_ I
  intro T F L mem kd ct ow pg pl sz op cn scr wd R
  refine cf_needs0 R ⟨?_, cf_mk R⟩
  have h1 := cf_J_N R.1
  rw [pk_sub (by omega)]
  exact congrArg nI (by omega)
/-- the room left for a kind -/
def cf_rm (F p t : Nat) : Nat := F * p + t
theorem cf_room {cn : Nat → Nat} {T F : Nat} (hN : F + cf_nd cn = T) (hT : T ≤ 12) : ∀ c, c < 4 → ∀ t, (cn c % cf_p c = 0 ∧ t = 0) ∨ (cn c % cf_p c ≠ 0 ∧ t + cn c % cf_p c = cf_p c) →
    cf_rm F (cf_p c) t ≤ 96 ∧ ∀ m, cf_nd (cf_u cn c (cn c + m)) ≤ T ↔ m ≤ cf_rm F (cf_p c) t := by
  unfold cf_nd at hN
  refine cf_c4 ?_ ?_ ?_ ?_
  · intro t ht
    rw [cf_p0] at ht ⊢
    unfold cf_rm
    refine ⟨by omega, fun m => ?_⟩
    show (cn 0 + m + 7) / 8 + (cn 1 + 3) / 4 + (cn 2 + 1) / 2 + cn 3 ≤ T ↔ _
    omega
  · intro t ht
    rw [cf_p1] at ht ⊢
    unfold cf_rm
    refine ⟨by omega, fun m => ?_⟩
    show (cn 0 + 7) / 8 + (cn 1 + m + 3) / 4 + (cn 2 + 1) / 2 + cn 3 ≤ T ↔ _
    omega
  · intro t ht
    rw [cf_p2] at ht ⊢
    unfold cf_rm
    refine ⟨by omega, fun m => ?_⟩
    show (cn 0 + 7) / 8 + (cn 1 + 3) / 4 + (cn 2 + m + 1) / 2 + cn 3 ≤ T ↔ _
    omega
  · intro t ht
    rw [cf_p3] at ht ⊢
    unfold cf_rm
    refine ⟨by omega, fun m => ?_⟩
    show (cn 0 + 7) / 8 + (cn 1 + 3) / 4 + (cn 2 + 1) / 2 + (cn 3 + m) ≤ T ↔ _
    omega
section
variable {T F L : Nat} {mem : Nat → Int32} {kd ct ow pg pl sz op cn : Nat → Nat} {scr : Nat → Int32} {wd : Nat → Int32} {post : Int32 → Prop}
theorem cf_yroom (R : cf_R T F L mem kd ct ow pg pl sz op cn wd) {c r : Nat} (hc : c < 4) (hr : r ≤ 96) (hiff : ∀ m, cf_nd (cf_u cn c (cn c + m)) ≤ T ↔ m ≤ r) (H : post (nI r)) :
    ∀ d i n x, i + d = 97 → 1 ≤ i → d < n → (i ≤ r → x + 1 = i) → (r < i → x = r) → wY_roomFor_15 post (nI c) (nI T) (cf_n sz) wd n (nI x) (nI i) := by
  have hT := cf_J_T R.1
  intro d
  induction d with
  | zero =>
    intro i n x hi h1 hd hx hx2
    have : i = 97 := by omega
    subst this
    cases n with
    | zero => omega
    | succ n =>
      have : x = r := hx2 (by omega)
      subst this
      exact br_t (nI_lt (a := 96) (b := 97) (by omega) (by decide)) H
  | succ d ih =>
    intro i n x hi h1 hd hx hx2
    cases n with
    | zero => omega
    | succ n =>
      refine br_f (nI_nlt (a := 96) (by omega) (by decide)) (cf_needs1 R hc (by omega) ?_)
      have hb : cf_nd (cf_u cn c (cn c + i)) < 2 ^ 31 := by
        have a0 : ∀ d, d < 4 → cf_u cn c (cn c + i) d ≤ 1000 := by
          intro d hd
          have := cf_cn_le R hd
          have := cf_cn_le R hc
          unfold cf_u
          split <;> omega
        have b0 := a0 0 (by omega)
        have b1 := a0 1 (by omega)
        have b2 := a0 2 (by omega)
        have b3 := a0 3 (by omega)
        unfold cf_nd
        omega
      have hi2 := hiff i
      refine pk_lt T (cf_nd (cf_u cn c (cn c + i))) (fun z => ?_) (fun z => ?_) rfl rfl (by omega) hb
      · have g : ¬ i ≤ r := fun y => by have := hi2.mpr y; omega
        exact nm_r (nI_1 i) (ih (i + 1) n x (by omega) (by omega) (by omega) (by omega) (by omega))
      · have g : i ≤ r := hi2.mp z
        exact nm_r (nI_1 i) (ih (i + 1) n i (by omega) (by omega) (by omega) (by omega) (by omega))
theorem cf_yroomW (R : cf_R T F L mem kd ct ow pg pl sz op cn wd) {c r : Nat} (hc : c < 4) (hr : r ≤ 96) (hiff : ∀ m, cf_nd (cf_u cn c (cn c + m)) ≤ T ↔ m ≤ r) (H : post (nI r)) : wpY_roomFor post (cf_Y T sz wd) (nI c) :=
  br_f (nI_pos (by omega)) (br_t (nI_le (b := 3) (by omega) (by decide)) ⟨97, cf_yroom R hc hr hiff H 96 1 97 0 (by omega) (by omega) (by omega) (by omega) (by omega)⟩)
end
theorem i_vc_roomFor {k : Nat} {u : SX} {v : SY} (I : i_Rel k u v) (hk : k + 4 ≤ 2049) (v1 : Int32) : wpX_roomFor (fun r => wpY_roomFor (fun r' => r' = r ∧ i_Rel (k + 4) u v) v v1) u v1 := by
  refine cf_el (P := fun u v => wpX_roomFor (fun r => wpY_roomFor (fun r' => r' = r ∧ i_Rel (k + 4) u v) v v1) u v1) ?_ I
  intro T F L mem kd ct ow pg pl sz op cn scr wd R
  unfold wpX_roomFor
  refine cf_isKindW ?_ ?_
  · intro hn
    exact br_t rfl (cf_kindN hn ⟨rfl, cf_mk R⟩)
  · intro c hc e
    subst e
    refine br_f cf_10 ?_
    have i3 : vp_in (nI c) 4 := vp_in_nI hc (by omega)
    have hT := cf_J_T R.1
    obtain ⟨e1, e2⟩ := cf_J_E R.1 c hc
    have hro := cf_room (cf_J_N R.1) hT.2 c hc
    refine cf_capW hc ?_
    refine nm_r (pk_mul F (cf_p c)) ⟨i3, ?_⟩
    cases ho : op c with
    | zero =>
      refine br_t (by rw [cf_re (by omega), ho]; rfl) ?_
      obtain ⟨r1, r2⟩ := hro 0 (Or.inl ⟨e1 ho, rfl⟩)
      exact cf_yroomW R hc r1 r2 ⟨rfl, cf_mk R⟩
    | succ p =>
      obtain ⟨f1, f2, f3, f4⟩ := e2 p ho
      have hD := cf_J_D R.1 p c (by omega) f2
      have eo : cf_e op (nI c).toNatClampNeg = nI p := cf_rs ho (by omega)
      refine br_f (by rw [eo]; exact cf_nI_m1 (by omega)) ⟨i3, by rw [eo]; exact vp_in_nI (by omega) (by omega), nm_r (e' := nI (cf_rm F (cf_p c) (cf_p c - ct p))) ?_ ?_⟩
      · rw [eo, cf_rn (by omega), pk_sub (by omega), nI_add]
        rfl
      · obtain ⟨r1, r2⟩ := hro (cf_p c - ct p) (Or.inr ⟨by omega, by omega⟩)
        exact cf_yroomW R hc r1 r2 ⟨rfl, cf_mk R⟩
end
section
/-! sum, next, count, faults -/
def cf_sm (g : Nat → Int32) : Nat → Int32
  | 0 => 0
  | n + 1 => cf_sm g n + g n
theorem cf_sm_z {g : Nat → Int32} {m : Nat} : ∀ n, m ≤ n → (∀ k, m ≤ k → k < n → g k = 0) → cf_sm g n = cf_sm g m
  | 0, hm, _ => by
    have : m = 0 := by omega
    rw [this]
  | n + 1, hm, h => by
    by_cases e : m = n + 1
    · rw [e]
    · show cf_sm g n + g n = _
      rw [h n (by omega) (by omega), Int32.add_zero]
      exact cf_sm_z n (by omega) fun k a b => h k a (by omega)
section
variable {T F L : Nat} {mem : Nat → Int32} {kd ct ow pg pl sz op cn : Nat → Nat} {scr : Nat → Int32} {wd : Nat → Int32} {post : Int32 → Prop}
theorem cf_xsum (R : cf_R T F L mem kd ct ow pg pl sz op cn wd) {h : Nat} (hh : h < 64) (h0 : 0 < sz h) (H : post (cf_sm (fun k => wd (16 * h + k)) (sz h))) :
    ∀ d i n, i + d = sz h → d < n → wX_sum_14 post (nI h) (nI T) (nI F) (nI L) mem (cf_e kd) (cf_n ct) (cf_e ow) (cf_n pg) (cf_n pl) (cf_n sz) (cf_e op) (cf_n cn) scr n (cf_sm (fun k => wd (16 * h + k)) i) (nI i) := by
  have h16 := cf_R_16 R h hh
  have i0 : vp_in (nI h) 64 := vp_in_nI hh (by omega)
  intro d
  induction d with
  | zero =>
    intro i n hi hd
    have : i = sz h := by omega
    subst this
    cases n with
    | zero => omega
    | succ n =>
      refine ⟨i0, br_t ?_ H⟩
      rw [cf_rn (by omega)]
      exact nI_le (Nat.le_refl _) (by omega)
  | succ d ih =>
    intro i n hi hd
    cases n with
    | zero => omega
    | succ n =>
      refine ⟨i0, br_f ?_ ?_⟩
      · rw [cf_rn (by omega)]
        exact nI_ge (by omega) (by omega)
      · refine cf_wordW R.1 hh (show cf_l (sz h) ≠ 0 by rw [Ne, cf_l_0]; omega) (cf_fit h16 (by omega)) ?_
        have K := ih (i + 1) n (by omega) (by omega)
        have e : cf_sm (fun k => wd (16 * h + k)) i + mem (16 * pg h + pl h * 2 ^ cf_l (sz h) + i) = cf_sm (fun k => wd (16 * h + k)) (i + 1) := by
          rw [(R.2 h hh).2.1 i (by omega)]
          rfl
        exact nm_r e (nm_r (nI_1 i) K)
theorem cf_ysum {h : Nat} (hh : h < 64) (H : post (cf_sm (fun k => wd (16 * h + k)) 16)) :
    ∀ d i n, i + d = 16 → d < n → wY_sum_14 post (nI h) (nI T) (cf_n sz) wd n (cf_sm (fun k => wd (16 * h + k)) i) (nI i) := by
  intro d
  induction d with
  | zero =>
    intro i n hi hd
    have : i = 16 := by omega
    subst this
    cases n with
    | zero => omega
    | succ n => exact br_t (nI_le (a := 16) (b := 16) (by omega) (by decide)) H
  | succ d ih =>
    intro i n hi hd
    cases n with
    | zero => omega
    | succ n =>
      have K := ih (i + 1) n (by omega) (by omega)
      refine br_f (nI_ge (b := 16) (by omega) (by decide)) ⟨by rw [cf_i16]; exact vp_in_nI (by omega) (by omega), nm_r ?_ (nm_r (nI_1 i) K)⟩
      rw [cf_i16, nI_clamp (by omega)]
      rfl
end
theorem i_vc_sum {k : Nat} {u : SX} {v : SY} (I : i_Rel k u v) (hk : k + 4 ≤ 2049) (v1 : Int32) : wpX_sum (fun r => wpY_sum (fun r' => r' = r ∧ i_Rel (k + 4) u v) v v1) u v1 := by
  refine cf_el (P := fun u v => wpX_sum (fun r => wpY_sum (fun r' => r' = r ∧ i_Rel (k + 4) u v) v v1) u v1) ?_ I
  intro T F L mem kd ct ow pg pl sz op cn scr wd R
  by_cases hg : ∃ h, h < 64 ∧ v1 = nI h ∧ 0 < sz h
  · obtain ⟨h, hh, rfl, h0⟩ := hg
    have h16 := cf_R_16 R h hh
    unfold wpX_sum
    refine cf_goodX hh h0 h16 ?_
    refine br_f cf_10 ⟨sz h + 1, ?_⟩
    refine cf_xsum R hh h0 ?_ (sz h) 0 (sz h + 1) (by omega) (by omega)
    unfold wpY_sum
    refine cf_goodY hh h0 h16 ?_
    refine br_t rfl ⟨17, ?_⟩
    refine cf_ysum hh ⟨?_, cf_mk R⟩ 16 0 17 (by omega) (by omega)
    exact cf_sm_z 16 h16 (R.2 h hh).2.2
  · unfold wpX_sum
    refine cf_badX hg ?_
    refine br_t rfl ?_
    unfold wpY_sum
    refine cf_badY hg ?_
    exact br_f cf_10 ⟨rfl, cf_mk R⟩
section
variable {T F L : Nat} {mem : Nat → Int32} {kd ct ow pg pl sz op cn : Nat → Nat} {scr : Nat → Int32} {wd : Nat → Int32}
theorem cf_scan (h16 : ∀ h, h < 64 → sz h ≤ 16) : ∀ d j, j + d = 64 → ∃ r : Int32, (∀ post : Int32 → Prop, post r → wX_next_10 post (nI T) (nI F) (nI L) mem (cf_e kd) (cf_n ct) (cf_e ow) (cf_n pg) (cf_n pl) (cf_n sz) (cf_e op) (cf_n cn) scr (d + 1) (nI j)) ∧
    (∀ (post : Int32 → Prop) (x1 : Int32) (n : Nat), (∀ i, j ≤ i → i < 64 → ¬ nI i < x1) → d < n → post r → wY_next_2 post x1 (nI T) (cf_n sz) wd n (nI j)) := by
  intro d
  induction d with
  | zero =>
    intro j hj
    have : j = 64 := by omega
    subst this
    have g : (64 : Int32) ≤ nI 64 := nI_le (a := 64) (b := 64) (by omega) (by decide)
    refine ⟨-1, fun post H => br_t g H, fun post x1 n _ hn H => ?_⟩
    cases n with
    | zero => omega
    | succ n => exact br_t g H
  | succ d ih =>
    intro j hj
    have g : ¬ (64 : Int32) ≤ nI j := nI_ge (b := 64) (by omega) (by decide)
    have i0 : vp_in (nI j) 64 := vp_in_nI (by omega) (by omega)
    have h6 := h16 j (by omega)
    by_cases z : sz j = 0
    · obtain ⟨r, hX, hY⟩ := ih (j + 1) (by omega)
      have e : cf_n sz (nI j).toNatClampNeg ≤ 0 := by
        rw [cf_rn (by omega), z]
        exact Int32.le_refl _
      refine ⟨r, fun post H => br_f g ⟨i0, br_t e (nm_r (nI_1 j) (hX post H))⟩, fun post x1 n hx hn H => ?_⟩
      cases n with
      | zero => omega
      | succ n => exact br_f g (br_f (hx j (Nat.le_refl j) (by omega)) ⟨i0, br_t e (nm_r (nI_1 j) (hY post x1 n (fun i a b => hx i (by omega) b) (by omega) H))⟩)
    · have e : ¬ cf_n sz (nI j).toNatClampNeg ≤ 0 := by
        rw [cf_rn (by omega)]
        exact nI_nle (by omega) (by omega)
      refine ⟨nI j, fun post H => br_f g ⟨i0, br_f e H⟩, fun post x1 n hx hn H => ?_⟩
      cases n with
      | zero => omega
      | succ n => exact br_f g (br_f (hx j (Nat.le_refl j) (by omega)) ⟨i0, br_f e H⟩)
theorem cf_skip {post : Int32 → Prop} {x1 : Int32} {j m : Nat} (hj : j ≤ 64) (hx : ∀ i, i < j → nI i < x1) (K : wY_next_2 post x1 (nI T) (cf_n sz) wd m (nI j)) :
    ∀ d i, i + d = j → wY_next_2 post x1 (nI T) (cf_n sz) wd (m + d) (nI i) := by
  intro d
  induction d with
  | zero =>
    intro i hi
    have : i = j := by omega
    subst this
    exact K
  | succ d ih =>
    intro i hi
    exact br_f (nI_ge (b := 64) (by omega) (by decide)) (br_t (hx i (by omega)) (nm_r (nI_1 i) (ih (i + 1) (by omega))))
end
theorem i_vc_next {k : Nat} {u : SX} {v : SY} (I : i_Rel k u v) (hk : k + 4 ≤ 2049) (v1 : Int32) : wpX_next (fun r => wpY_next (fun r' => r' = r ∧ i_Rel (k + 4) u v) v v1) u v1 := by
  refine cf_el (P := fun u v => wpX_next (fun r => wpY_next (fun r' => r' = r ∧ i_Rel (k + 4) u v) v v1) u v1) ?_ I
  intro T F L mem kd ct ow pg pl sz op cn scr wd R
  have h16 := cf_R_16 R
  rcases pk_ix v1 (n := 64) (by decide) with h | h | ⟨j, hj, rfl⟩
  · obtain ⟨r, hX, hY⟩ := cf_scan (T := T) (F := F) (L := L) (mem := mem) (kd := kd) (ct := ct) (ow := ow) (pg := pg) (pl := pl) (op := op) (cn := cn) (scr := scr) (wd := wd) h16 64 0 rfl
    refine br_f (Int32.not_le.mpr h) ⟨65, hX _ ⟨65, hY _ _ _ (fun i _ hi z => ?_) (by omega) ⟨rfl, cf_mk R⟩⟩⟩
    have := Int32.lt_trans z h
    exact nI_pos (by omega) this
  · have h0 : (0 : Int32) ≤ v1 := Int32.le_trans (by decide) h
    refine br_t h0 ⟨1, br_t h ⟨1 + 64, ?_⟩⟩
    refine cf_skip (j := 64) (m := 1) (by omega) (fun i hi => Int32.lt_of_lt_of_le (nI_lt hi (by decide)) h) ?_ 64 0 (by omega)
    exact br_t (nI_le (a := 64) (b := 64) (by omega) (by decide)) ⟨rfl, cf_mk R⟩
  · obtain ⟨r, hX, hY⟩ := cf_scan (T := T) (F := F) (L := L) (mem := mem) (kd := kd) (ct := ct) (ow := ow) (pg := pg) (pl := pl) (op := op) (cn := cn) (scr := scr) (wd := wd) h16 (64 - j) j (by omega)
    refine br_t (nI_pos' (by omega)) ⟨_, hX _ ⟨65 + j, ?_⟩⟩
    refine cf_skip (j := j) (m := 65) (by omega) (fun i hi => nI_lt hi (by omega)) ?_ j 0 (by omega)
    exact hY _ _ _ (fun i hi h6 => nI_nlt hi (by omega)) (by omega) ⟨rfl, cf_mk R⟩
section
variable {T F L : Nat} {mem : Nat → Int32} {kd ct ow pg pl sz op cn : Nat → Nat} {scr : Nat → Int32} {wd : Nat → Int32}
theorem cf_count1 (R : cf_R T F L mem kd ct ow pg pl sz op cn wd) {h : Nat} (hh : h < 64) (v : Int32) : ∀ d i x, i + d = sz h → ∃ r : Int32,
    (∀ (post : Int32 → Prop) (N : Int32 → Int32 → Prop), N r (nI (h + 1)) → wX_count_13 post N v (nI h) (nI T) (nI F) (nI L) mem (cf_e kd) (cf_n ct) (cf_e ow) (cf_n pg) (cf_n pl) (cf_n sz) (cf_e op) (cf_n cn) scr (d + 1) x (nI i)) ∧
    (∀ (post : Int32 → Prop) (N : Int32 → Int32 → Prop), N r (nI (h + 1)) → wY_count_13 post N v (nI h) (nI T) (cf_n sz) wd (d + 1) x (nI i)) := by
  have h16 := cf_R_16 R h hh
  have i0 : vp_in (nI h) 64 := vp_in_nI hh (by omega)
  intro d
  induction d with
  | zero =>
    intro i x hi
    have e : cf_n sz (nI h).toNatClampNeg ≤ nI i := by
      rw [cf_rn (by omega)]
      exact nI_le (by omega) (by omega)
    exact ⟨x, fun post N H => ⟨i0, br_t e (nm_r (nI_1 h) H)⟩, fun post N H => ⟨i0, br_t e (nm_r (nI_1 h) H)⟩⟩
  | succ d ih =>
    intro i x hi
    have e : ¬ cf_n sz (nI h).toNatClampNeg ≤ nI i := by
      rw [cf_rn (by omega)]
      exact nI_ge (by omega) (by omega)
    have e2 : ¬ (16 : Int32) ≤ nI i := nI_ge (b := 16) (by omega) (by decide)
    have i1 : vp_in (16 * nI h + nI i) 1024 := by rw [cf_i16]; exact vp_in_nI (by omega) (by omega)
    have ew : wd (16 * nI h + nI i).toNatClampNeg = wd (16 * h + i) := by rw [cf_i16, nI_clamp (by omega)]
    have em := (R.2 h hh).2.1 i (by omega)
    have hl : cf_l (sz h) ≠ 0 := by rw [Ne, cf_l_0]; omega
    by_cases z : wd (16 * h + i) = v
    · obtain ⟨r, hX, hY⟩ := ih (i + 1) (x + 1) (by omega)
      refine ⟨r, fun post N H => ⟨i0, br_f e (cf_wordW R.1 hh hl (cf_fit h16 (by omega)) (br_t (em.trans z) (nm_e (nm_r (nI_1 i) (hX post N H)))))⟩, fun post N H => ⟨i0, br_f e (br_f e2 ⟨i1, br_t (ew.trans z) (nm_e (nm_r (nI_1 i) (hY post N H)))⟩)⟩⟩
    · obtain ⟨r, hX, hY⟩ := ih (i + 1) x (by omega)
      refine ⟨r, fun post N H => ⟨i0, br_f e (cf_wordW R.1 hh hl (cf_fit h16 (by omega)) (br_f (fun y => z (em.symm.trans y)) (nm_r (nI_1 i) (hX post N H))))⟩, fun post N H => ⟨i0, br_f e (br_f e2 ⟨i1, br_f (fun y => z (ew.symm.trans y)) (nm_r (nI_1 i) (hY post N H))⟩)⟩⟩
theorem cf_count2 (R : cf_R T F L mem kd ct ow pg pl sz op cn wd) (v : Int32) : ∀ d h x, h + d = 64 → ∃ r : Int32,
    (∀ (post : Int32 → Prop), post r → wX_count_4 post v (nI T) (nI F) (nI L) mem (cf_e kd) (cf_n ct) (cf_e ow) (cf_n pg) (cf_n pl) (cf_n sz) (cf_e op) (cf_n cn) scr (d + 1) x (nI h)) ∧
    (∀ (post : Int32 → Prop), post r → wY_count_4 post v (nI T) (cf_n sz) wd (d + 1) x (nI h)) := by
  intro d
  induction d with
  | zero =>
    intro h x hi
    have e : (64 : Int32) ≤ nI h := nI_le (a := 64) (by omega) (by omega)
    exact ⟨x, fun post H => br_t e H, fun post H => br_t e H⟩
  | succ d ih =>
    intro h x hi
    have e : ¬ (64 : Int32) ≤ nI h := nI_ge (b := 64) (by omega) (by decide)
    obtain ⟨r, hX, hY⟩ := cf_count1 (scr := scr) R (h := h) (by omega) v (sz h) 0 x (by omega)
    obtain ⟨r2, gX, gY⟩ := ih (h + 1) r (by omega)
    exact ⟨r2, fun post H => br_f e ⟨sz h + 1, hX post _ (gX post H)⟩, fun post H => br_f e ⟨sz h + 1, hY post _ (gY post H)⟩⟩
end
theorem i_vc_count {k : Nat} {u : SX} {v : SY} (I : i_Rel k u v) (hk : k + 4 ≤ 2049) (v1 : Int32) : wpX_count (fun r => wpY_count (fun r' => r' = r ∧ i_Rel (k + 4) u v) v v1) u v1 := by
  refine cf_el (P := fun u v => wpX_count (fun r => wpY_count (fun r' => r' = r ∧ i_Rel (k + 4) u v) v v1) u v1) ?_ I
  intro T F L mem kd ct ow pg pl sz op cn scr wd R
  obtain ⟨r, hX, hY⟩ := cf_count2 (scr := scr) R v1 64 0 0 (by omega)
  exact ⟨65, hX _ ⟨65, hY _ ⟨rfl, cf_mk R⟩⟩⟩
section
variable {T F L : Nat} {mem : Nat → Int32} {kd ct ow pg pl sz op cn : Nat → Nat} {scr : Nat → Int32} {wd : Nat → Int32} {post : Int32 → Prop}
theorem cf_strange (R : cf_R T F L mem kd ct ow pg pl sz op cn wd) {p : Nat} (hp : p < 12) (H : post 0) : ∀ d i n, i + d = 8 → d < n → wX_strangers_4 post (nI p) (nI T) (nI F) (nI L) mem (cf_e kd) (cf_n ct) (cf_e ow) (cf_n pg) (cf_n pl) (cf_n sz) (cf_e op) (cf_n cn) scr n 0 (nI i) := by
  intro d
  induction d with
  | zero =>
    intro i n hi hd
    have : i = 8 := by omega
    subst this
    cases n with
    | zero => omega
    | succ n => exact br_t (nI_le (a := 8) (b := 8) (by omega) (by decide)) H
  | succ d ih =>
    intro i n hi hd
    cases n with
    | zero => omega
    | succ n =>
      have K := ih (i + 1) n (by omega) (by omega)
      have i1 : vp_in (8 * nI p + nI i) 96 := by rw [cf_i8]; exact vp_in_nI (by omega) (by omega)
      refine br_f (nI_ge (b := 8) (by omega) (by decide)) ⟨i1, ?_⟩
      cases ho : ow (8 * p + i) with
      | zero =>
        refine nm_r (e' := -1) ?_ (br_t rfl (nm_r (nI_1 i) K))
        rw [cf_i8, cf_re (by omega), ho]
        rfl
      | succ b =>
        obtain ⟨b1, b2, b3, b4⟩ := cf_J_B R.1 p i b hp (by omega) ho
        have b2' : cf_l (sz b) ≠ 0 := b2
        have hsz : sz b ≠ 0 := by rw [Ne, ← cf_l_0]; exact b2'
        have i2 : vp_in (nI b) 64 := vp_in_nI b1 (by omega)
        have h4 := cf_l_le (sz b)
        obtain ⟨g1, g2, g3, g4, g5⟩ := cf_J_A R.1 b (cf_l (sz b) - 1) b1 (show cf_l (sz b) = cf_l (sz b) - 1 + 1 by omega)
        rw [b3] at g3
        refine nm_r (e' := nI b) ?_ (br_f (cf_nI_m1 (by omega)) ⟨i2, br_t ?_ ⟨i2, br_t ?_ ⟨i2, ?_⟩⟩⟩)
        · rw [cf_i8, cf_rs ho (by omega)]
        · rw [cf_rn (by omega), b3]
        · rw [cf_rn (by omega), b4]
        · rw [cf_rn (by omega)]
          refine cf_kindX (by omega) (cf_R_16 R b b1) ⟨vp_in_nI hp (by omega), br_t ?_ (nm_r (nI_1 i) K)⟩
          rw [cf_rs g3 (by omega)]
theorem cf_fault62 (R : cf_R T F L mem kd ct ow pg pl sz op cn wd) {N : Int32 → Int32 → Prop} {p : Nat} (hp : p < 12) (hct : 0 < ct p) (H : N 0 (nI (p + 1))) : wX_faults_61 post N 0 (nI p) (nI T) (nI F) (nI L) mem (cf_e kd) (cf_n ct) (cf_e ow) (cf_n pg) (cf_n pl) (cf_n sz) (cf_e op) (cf_n cn) scr := by
  have i1 : vp_in (nI p) 12 := vp_in_nI hp (by omega)
  have h8 := cf_ct_le R.1 hp
  show wX_faults_62 post N 0 (nI p) 0 _ _ _ _ _ _ _ _ _ _ _ _ _
  refine ⟨i1, br_f ?_ (br_t rfl ⟨9, ?_⟩)⟩
  · rw [cf_rn (by omega)]
    exact nI_ne0 hct (by omega)
  · exact cf_strange R hp (br_t (Int32.le_refl _) (nm_r (nI_1 p) H)) 8 0 9 (by omega) (by omega)
theorem cf_faults (R : cf_R T F L mem kd ct ow pg pl sz op cn wd) (H : post 0) : ∀ d i n, i + d = T → d < n → wX_faults_4 post (nI T) (nI F) (nI L) mem (cf_e kd) (cf_n ct) (cf_e ow) (cf_n pg) (cf_n pl) (cf_n sz) (cf_e op) (cf_n cn) scr n 0 (nI i) := by
  have hT := cf_J_T R.1
  intro d
  induction d with
  | zero =>
    intro i n hi hd
    have : i = T := by omega
    subst this
    cases n with
    | zero => omega
    | succ n => exact br_t (nI_le (Nat.le_refl _) (by omega)) H
  | succ d ih =>
    intro i n hi hd
    cases n with
    | zero => omega
    | succ n =>
      have K := ih (i + 1) n (by omega) (by omega)
      have i1 : vp_in (nI i) 12 := vp_in_nI (by omega) (by omega)
      refine br_f (nI_ge (by omega) (by omega)) ⟨i1, ?_⟩
      cases hk : kd i with
      | zero =>
        refine br_t ?_ (nm_r (nI_1 i) K)
        rw [cf_re (by omega), hk]
        rfl
      | succ c =>
        obtain ⟨d1, d2, d3, d4, d5⟩ := cf_J_D R.1 i c (by omega) hk
        have hpp := cf_p_pos c d1
        have ek : cf_e kd (nI i).toNatClampNeg = nI c := cf_rs hk (by omega)
        refine br_f (by rw [ek]; exact cf_nI_m1 (by omega)) ⟨i1, ?_⟩
        rw [ek]
        refine cf_capW d1 ⟨i1, pk_le (cf_p c) (ct i) (fun z => cf_fault62 R (by omega) d3 K) (fun z => ?_) rfl (cf_rn (by omega)) (by omega) (by omega)⟩
        have ho : op c = i + 1 := by omega
        exact ⟨i1, vp_in_nI d1 (by omega), br_t (cf_rs ho (by omega)) (cf_fault62 R (by omega) d3 K)⟩
end
theorem i_vc_faults {k : Nat} {u : SX} {v : SY} (I : i_Rel k u v) (hk : k + 4 ≤ 2049) : wpX_faults (fun r => wpY_faults (fun r' => r' = r ∧ i_Rel (k + 4) u v) v) u := by
  refine cf_el (P := fun u v => wpX_faults (fun r => wpY_faults (fun r' => r' = r ∧ i_Rel (k + 4) u v) v) u) ?_ I
  intro T F L mem kd ct ow pg pl sz op cn scr wd R
  exact ⟨T + 1, cf_faults R ⟨rfl, cf_mk R⟩ T 0 (T + 1) (by omega) (by omega)⟩
end
section
/-! the constructors -/
def cf_z (i : Nat) : Nat → Nat := fun j => if j < i then 0 else 1
theorem cf_z0 : cf_e (cf_z 0) = fun _ => 0 := by
  funext j
  show cf_I (if j < 0 then 0 else 1) = 0
  rw [if_neg (by omega)]
  rfl
theorem cf_zs (i : Nat) : cf_u (cf_z i) i 0 = cf_z (i + 1) := by
  funext j
  unfold cf_u cf_z
  by_cases e : j = i
  · rw [if_pos e, if_pos (by omega)]
  · rw [if_neg e]
    by_cases e2 : j < i
    · rw [if_pos e2, if_pos (by omega)]
    · rw [if_neg e2, if_neg (by omega)]
theorem cf_zin {i j : Nat} (h : j < i) : cf_z i j = 0 := if_pos h
theorem cf_n0 : cf_n (fun _ => 0) = fun _ => 0 := by
  funext j
  exact nI_0
theorem cf_R0 {T : Nat} (h2 : 2 ≤ T) (h12 : T ≤ 12) : cf_R T T 0 (fun _ => 0) (cf_z 12) (fun _ => 0) (cf_z 96) (fun _ => 0) (fun _ => 0) (fun _ => 0) (cf_z 4) (fun _ => 0) (fun _ => 0) := by
  refine ⟨⟨⟨h2, h12⟩, ?_, ?_, ?_, ?_, ?_, ?_, ?_, ?_, ?_⟩, ?_⟩
  · intro h c _ e
    exact absurd e (by show ¬ cf_l 0 = c + 1; rw [show cf_l 0 = 0 from rfl]; omega)
  · intro p s h hp hs e
    rw [cf_zin (by omega)] at e
    omega
  · intro p hp
    show 0 + cf_q (fun s => cf_z 96 (8 * p + s)) 0 8 = 8
    rw [cf_q_const 8 (fun s hs => cf_zin (by omega))]
  · intro p c hp e
    rw [cf_zin hp] at e
    omega
  · intro c hc
    refine ⟨fun _ => Nat.zero_mod _, fun p e => ?_⟩
    rw [cf_zin hc] at e
    omega
  · exact (cf_q_const T (fun p hp => cf_zin (by omega))).symm
  · rfl
  · intro c hc
    exact (cf_q_zero 64 (fun h _ e => absurd e (by show ¬ cf_l 0 = c + 1; rw [show cf_l 0 = 0 from rfl]; omega))).symm
  · exact (Nat.zero_add _).trans (cf_q_const 64 (fun h _ => rfl))
  · intro h hh
    exact ⟨Nat.zero_le _, fun k hk => absurd hk (Nat.not_lt_zero k), fun k _ _ => rfl⟩
section
variable {T F L : Nat} {mem : Nat → Int32} {kd ct ow pg pl sz op cn : Nat → Nat} {scr : Nat → Int32} {post : SX → Prop}
theorem cf_i164 (H : post (cf_X T F L mem kd ct ow pg pl sz (cf_z 4) cn scr)) : ∀ d i n, i + d = 4 → d < n → wX_init_164 post (nI T) (nI F) (nI L) n (nI i) mem (cf_e kd) (cf_n ct) (cf_e ow) (cf_n pg) (cf_n pl) (cf_n sz) (cf_e (cf_z i)) (cf_n cn) scr := by
  intro d
  induction d with
  | zero =>
    intro i n hi hd
    have : i = 4 := by omega
    subst this
    cases n with
    | zero => omega
    | succ n => exact br_t (nI_le (a := 4) (b := 4) (by omega) (by decide)) H
  | succ d ih =>
    intro i n hi hd
    cases n with
    | zero => omega
    | succ n =>
      refine br_f (nI_ge (b := 4) (by omega) (by decide)) ⟨vp_in_nI (by omega) (by omega), nm_r ?_ (nm_r (nI_1 i) (ih (i + 1) n (by omega) (by omega)))⟩
      rw [cf_w0 (by omega), cf_zs]
theorem cf_i143 (H : post (cf_X T F L mem kd ct (cf_z 96) pg pl sz (cf_z 4) cn scr)) : ∀ d i n, i + d = 96 → d < n → wX_init_143 post (nI T) (nI F) (nI L) n (nI i) mem (cf_e kd) (cf_n ct) (cf_e (cf_z i)) (cf_n pg) (cf_n pl) (cf_n sz) (cf_e (cf_z 0)) (cf_n cn) scr := by
  intro d
  induction d with
  | zero =>
    intro i n hi hd
    have : i = 96 := by omega
    subst this
    cases n with
    | zero => omega
    | succ n => exact br_t (nI_le (a := 96) (b := 96) (by omega) (by decide)) ⟨5, cf_i164 H 4 0 5 (by omega) (by omega)⟩
  | succ d ih =>
    intro i n hi hd
    cases n with
    | zero => omega
    | succ n =>
      refine br_f (nI_ge (b := 96) (by omega) (by decide)) ⟨vp_in_nI (by omega) (by omega), nm_r ?_ (nm_r (nI_1 i) (ih (i + 1) n (by omega) (by omega)))⟩
      rw [cf_w0 (by omega), cf_zs]
theorem cf_i122 (H : post (cf_X T F L mem (cf_z 12) ct (cf_z 96) pg pl sz (cf_z 4) cn scr)) : ∀ d i n, i + d = 12 → d < n → wX_init_122 post (nI T) (nI F) (nI L) n (nI i) mem (cf_e (cf_z i)) (cf_n ct) (cf_e (cf_z 0)) (cf_n pg) (cf_n pl) (cf_n sz) (cf_e (cf_z 0)) (cf_n cn) scr := by
  intro d
  induction d with
  | zero =>
    intro i n hi hd
    have : i = 12 := by omega
    subst this
    cases n with
    | zero => omega
    | succ n => exact br_t (nI_le (a := 12) (b := 12) (by omega) (by decide)) ⟨97, cf_i143 H 96 0 97 (by omega) (by omega)⟩
  | succ d ih =>
    intro i n hi hd
    cases n with
    | zero => omega
    | succ n =>
      refine br_f (nI_ge (b := 12) (by omega) (by decide)) ⟨vp_in_nI (by omega) (by omega), nm_r ?_ (nm_r (nI_1 i) (ih (i + 1) n (by omega) (by omega)))⟩
      rw [cf_w0 (by omega), cf_zs]
end
theorem cf_initX {post : SX → Prop} {T : Nat} (H : post (cf_X T T 0 (fun _ => 0) (cf_z 12) (fun _ => 0) (cf_z 96) (fun _ => 0) (fun _ => 0) (fun _ => 0) (cf_z 4) (fun _ => 0) (fun _ => 0))) :
    ∃ n, wX_init_122 post (nI T) (nI T) 0 n 0 (fun _ => 0) (fun _ => 0) (fun _ => 0) (fun _ => 0) (fun _ => 0) (fun _ => 0) (fun _ => 0) (fun _ => 0) (fun _ => 0) (fun _ => 0) := by
  have W := cf_i122 H 12 0 13 (by omega) (by omega)
  rw [cf_z0, cf_n0] at W
  exact ⟨13, W⟩
theorem cf_mk0 {T : Nat} (h2 : 2 ≤ T) (h12 : T ≤ 12) : i_Rel 1 (cf_X T T 0 (fun _ => 0) (cf_z 12) (fun _ => 0) (cf_z 96) (fun _ => 0) (fun _ => 0) (fun _ => 0) (cf_z 4) (fun _ => 0) (fun _ => 0)) (nI T, (fun _ => 0), (fun _ => 0)) := by
  have := cf_mk (k := 1) (scr := fun _ => 0) (cf_R0 h2 h12)
  unfold cf_Y at this
  rw [cf_n0] at this
  unfold cf_X
  rw [cf_n0]
  exact this
theorem i_vc0 (k0 : Int32) : wpX_init (fun u => wpY_init (fun v => i_Rel 1 u v) k0) k0 := by
  by_cases h2 : (2 : Int32) ≤ k0
  · by_cases h12 : k0 ≤ 12
    · obtain ⟨t, ht, rfl⟩ := nI_of2 (M := 12) (n := 12) (by decide) (Int32.not_lt.mpr (Int32.le_trans (by decide) h2)) h12
      have g2 : 2 ≤ t := (nI_leI (a := 2) (by decide) (by omega)).mp h2
      exact br_t h2 (br_t h12 (cf_initX (br_t h2 (br_t h12 (cf_mk0 g2 ht)))))
    · exact br_t h2 (br_f h12 (cf_initX (T := 12) (br_t h2 (br_f h12 (cf_mk0 (by omega) (by omega))))))
  · exact br_f h2 (br_t (show (2 : Int32) ≤ 12 by decide) (cf_initX (T := 2) (br_f h2 (cf_mk0 (by omega) (by omega)))))
end
section
/-! write, fill, exchange -/
theorem cf_upd_wr {m : Nat → Int32} {d : Nat} {x : Int32} : upd m d x = cf_wr m d 1 (fun _ => x) := by
  have := cf_wr_s (m := m) (d := d) (w := 0) (g := fun _ => x) rfl
  rw [cf_wr_0] at this
  exact this
theorem cf_wr_id {m : Nat → Int32} {d w : Nat} : cf_wr m d w (fun k => m (d + k)) = m := by
  funext j
  unfold cf_wr
  by_cases e : d ≤ j ∧ j < d + w
  · rw [if_pos e]
    show m (d + (j - d)) = m j
    rw [show d + (j - d) = j by omega]
  · rw [if_neg e]
theorem cf_upd_id {m : Nat → Int32} {d : Nat} : upd m d (m d) = m := by
  funext j
  unfold upd
  by_cases e : j = d
  · rw [if_pos e, e]
  · rw [if_neg e]
theorem cf_wr_upd {m : Nat → Int32} {d w j : Nat} {g : Nat → Int32} {x : Int32} (h : ∀ k, k < w → j ≠ d + k) : upd (cf_wr m d w g) j x = cf_wr (upd m j x) d w g := by
  funext i
  unfold upd cf_wr
  by_cases e : i = j
  · rw [if_pos e, if_neg (fun z => h (i - d) (by omega) (by omega))]
    exact (if_pos e).symm
  · rw [if_neg e]
    show _ = if d ≤ i ∧ i < d + w then g (i - d) else (if i = j then x else m i)
    rw [if_neg e]
theorem cf_wr_1 {m : Nat → Int32} {d : Nat} {x : Int32} : cf_wr m d 1 (fun _ => x) d = x := by
  have := cf_wr_in (m := m) (d := d) (w := 1) (k := 0) (g := fun _ => x) (by omega)
  exact this
theorem i_vc_write {k : Nat} {u : SX} {v : SY} (I : i_Rel k u v) (hk : k + 4 ≤ 2049) (v1 : Int32) (v2 : Int32) (v3 : Int32) : wpX_write (fun r u' => wpY_write (fun r' v' => r' = r ∧ i_Rel (k + 4) u' v') v v1 v2 v3) u v1 v2 v3 := by
  refine cf_el (P := fun u v => wpX_write (fun r u' => wpY_write (fun r' v' => r' = r ∧ i_Rel (k + 4) u' v') v v1 v2 v3) u v1 v2 v3) ?_ I
  intro T F L mem kd ct ow pg pl sz op cn scr wd R
  by_cases hg : ∃ h, h < 64 ∧ v1 = nI h ∧ 0 < sz h
  · obtain ⟨h, hh, rfl, h0⟩ := hg
    have h16 := cf_R_16 R h hh
    have i0 : vp_in (nI h) 64 := vp_in_nI hh (by omega)
    unfold wpX_write
    refine cf_goodX hh h0 h16 ?_
    refine br_f cf_10 (br_c (fun z => ?_) (fun z => ⟨i0, ?_⟩))
    · unfold wpY_write
      refine cf_goodY hh h0 h16 ?_
      exact br_t rfl (br_t z ⟨rfl, cf_mk R⟩)
    · obtain ⟨w, hw, rfl⟩ := nI_of z
      refine pk_lt w (sz h) (fun g => ?_) (fun g => ?_) rfl (cf_rn (by omega)) hw (by omega)
      · have hl : cf_l (sz h) ≠ 0 := by rw [Ne, cf_l_0]; omega
        have hwi := cf_within R.1 hh hl (cf_fit h16 g)
        have hwi' : 16 * pg h + pl h * 2 ^ cf_l (sz h) + w < 192 := hwi
        refine cf_baseW R.1 hh hl ?_
        refine ⟨by rw [nI_add]; exact vp_in_nI hwi (by omega), nm_r (e' := cf_wr mem (16 * pg h + pl h * 2 ^ cf_l (sz h) + w) 1 (fun _ => v3)) ?_ ?_⟩
        · rw [nI_add, nI_clamp (by omega)]
          exact cf_upd_wr
        · unfold wpY_write
          refine cf_goodY hh h0 h16 ?_
          refine br_t rfl (br_f z ⟨i0, br_t ?_ ⟨by rw [cf_i16]; exact vp_in_nI (by omega) (by omega), nm_r (e' := cf_wr wd (16 * h + w) 1 (fun _ => v3)) ?_ ⟨rfl, cf_mk ⟨R.1, ?_⟩⟩⟩⟩)
          · rw [cf_rn (by omega)]
            exact nI_lt g (by omega)
          · rw [cf_i16, nI_clamp (by omega)]
            exact cf_upd_wr
          · refine cf_M_set R.2 (h := h) (fun a ha e => ⟨rfl, fun j hj => ?_, fun j hj => ?_⟩) ⟨h16, fun j hj => ?_, fun j h1 h2 => ?_⟩
            · exact cf_other R.1 R.2 hh h0 (Or.inr (by have := cf_fit h16 g; omega)) ha e hj
            · exact cf_wr_out fun l hl => by omega
            · by_cases ej : j = w
              · subst ej
                rw [cf_wr_1, cf_wr_1]
              · rw [cf_wr_out (fun l hl => by omega), cf_wr_out (fun l hl => by omega)]
                exact (R.2 h hh).2.1 j hj
            · rw [cf_wr_out (fun l hl => by omega)]
              exact (R.2 h hh).2.2 j h1 h2
      · unfold wpY_write
        refine cf_goodY hh h0 h16 ?_
        refine br_t rfl (br_f z ⟨i0, br_f ?_ ⟨rfl, cf_mk R⟩⟩)
        rw [cf_rn (by omega)]
        exact nI_nlt g hw
  · unfold wpX_write
    refine cf_badX hg ?_
    refine br_t rfl ?_
    unfold wpY_write
    refine cf_badY hg ?_
    exact br_f cf_10 ⟨rfl, cf_mk R⟩
section
variable {T F L : Nat} {mem : Nat → Int32} {kd ct ow pg pl sz op cn : Nat → Nat} {scr : Nat → Int32} {wd : Nat → Int32}
theorem cf_xfill {post : Int32 → SX → Prop} {h b : Nat} {x y : Int32} (hh : h < 64) (h16 : sz h ≤ 16) (hb : b + sz h ≤ 192) (H : post (nI (sz h)) (cf_X T F L (cf_wr mem b (sz h) (fun k => x + nI k * y)) kd ct ow pg pl sz op cn scr)) :
    ∀ d i n, i + d = sz h → d < n → wX_fill_20 post (nI h) x y (nI b) (nI T) (nI F) (nI L) n (nI i) (cf_wr mem b i (fun k => x + nI k * y)) (cf_e kd) (cf_n ct) (cf_e ow) (cf_n pg) (cf_n pl) (cf_n sz) (cf_e op) (cf_n cn) scr := by
  have i0 : vp_in (nI h) 64 := vp_in_nI hh (by omega)
  intro d
  induction d with
  | zero =>
    intro i n hi hd
    have : i = sz h := by omega
    subst this
    cases n with
    | zero => omega
    | succ n =>
      refine ⟨i0, br_t ?_ ⟨i0, ?_⟩⟩
      · rw [cf_rn (by omega)]
        exact nI_le (Nat.le_refl _) (by omega)
      · rw [cf_rn (by omega)]
        exact H
  | succ d ih =>
    intro i n hi hd
    cases n with
    | zero => omega
    | succ n =>
      refine ⟨i0, br_f ?_ ⟨?_, nm_r ?_ (nm_r (nI_1 i) (ih (i + 1) n (by omega) (by omega)))⟩⟩
      · rw [cf_rn (by omega)]
        exact nI_ge (by omega) (by omega)
      · rw [nI_add]; exact vp_in_nI (by omega) (by omega)
      · rw [nI_add, nI_clamp (by omega)]
        exact cf_wr_s rfl
theorem cf_yfill {post : Int32 → SY → Prop} {h : Nat} {x y : Int32} (hh : h < 64) (h16 : sz h ≤ 16) (H : post (nI (sz h)) (cf_Y T sz (cf_wr wd (16 * h) (sz h) (fun k => x + nI k * y)))) :
    ∀ d i n, i + d = sz h → d < n → wY_fill_13 post (nI h) x y (nI T) n (nI i) (cf_n sz) (cf_wr wd (16 * h) i (fun k => x + nI k * y)) := by
  have i0 : vp_in (nI h) 64 := vp_in_nI hh (by omega)
  intro d
  induction d with
  | zero =>
    intro i n hi hd
    have : i = sz h := by omega
    subst this
    cases n with
    | zero => omega
    | succ n =>
      refine ⟨i0, br_t ?_ ⟨i0, ?_⟩⟩
      · rw [cf_rn (by omega)]
        exact nI_le (Nat.le_refl _) (by omega)
      · rw [cf_rn (by omega)]
        exact H
  | succ d ih =>
    intro i n hi hd
    cases n with
    | zero => omega
    | succ n =>
      refine ⟨i0, br_f ?_ (br_f (nI_ge (b := 16) (by omega) (by decide)) ⟨?_, nm_r ?_ (nm_r (nI_1 i) (ih (i + 1) n (by omega) (by omega)))⟩)⟩
      · rw [cf_rn (by omega)]
        exact nI_ge (by omega) (by omega)
      · rw [cf_i16]; exact vp_in_nI (by omega) (by omega)
      · rw [cf_i16, nI_clamp (by omega)]
        exact cf_wr_s rfl
end
theorem i_vc_fill {k : Nat} {u : SX} {v : SY} (I : i_Rel k u v) (hk : k + 4 ≤ 2049) (v1 : Int32) (v2 : Int32) (v3 : Int32) : wpX_fill (fun r u' => wpY_fill (fun r' v' => r' = r ∧ i_Rel (k + 4) u' v') v v1 v2 v3) u v1 v2 v3 := by
  refine cf_el (P := fun u v => wpX_fill (fun r u' => wpY_fill (fun r' v' => r' = r ∧ i_Rel (k + 4) u' v') v v1 v2 v3) u v1 v2 v3) ?_ I
  intro T F L mem kd ct ow pg pl sz op cn scr wd R
  by_cases hg : ∃ h, h < 64 ∧ v1 = nI h ∧ 0 < sz h
  · obtain ⟨h, hh, rfl, h0⟩ := hg
    have h16 := cf_R_16 R h hh
    have hl : cf_l (sz h) ≠ 0 := by rw [Ne, cf_l_0]; omega
    have hwi := cf_within R.1 hh hl (k := sz h - 1) (cf_fit h16 (by omega))
    have hwi' : 16 * pg h + pl h * 2 ^ cf_l (sz h) + (sz h - 1) < 192 := hwi
    unfold wpX_fill
    refine cf_goodX hh h0 h16 ?_
    refine br_f cf_10 ?_
    refine cf_baseW R.1 hh hl ?_
    refine ⟨sz h + 1, ?_⟩
    have W := fun post H => cf_xfill (post := post) (b := 16 * pg h + pl h * 2 ^ cf_l (sz h)) (x := v2) (y := v3) hh h16 (by omega) H (T := T) (F := F) (L := L) (mem := mem) (kd := kd) (ct := ct) (ow := ow) (pg := pg) (pl := pl) (op := op) (cn := cn) (scr := scr) (sz h) 0 (sz h + 1) (by omega) (by omega)
    rw [cf_wr_0] at W
    refine W _ ?_
    unfold wpY_fill
    refine cf_goodY hh h0 h16 ?_
    refine br_t rfl ⟨sz h + 1, ?_⟩
    have W2 := fun post H => cf_yfill (post := post) (T := T) (wd := wd) (x := v2) (y := v3) hh h16 H (sz h) 0 (sz h + 1) (by omega) (by omega)
    rw [cf_wr_0] at W2
    refine W2 _ ⟨rfl, cf_mk ⟨R.1, ?_⟩⟩
    refine cf_M_set R.2 (h := h) (fun a ha e => ⟨rfl, fun j hj => ?_, fun j hj => cf_wd_other h16 e hj⟩) ⟨h16, fun j hj => ?_, fun j h1 h2 => ?_⟩
    · exact cf_other (lo := 0) R.1 R.2 hh h0 (Or.inr (by have := cf_l_fit (sz h) h16; omega)) ha e hj
    · rw [cf_wr_in hj, cf_wr_in hj]
    · rw [cf_wr_out (fun l hl => by omega)]
      exact (R.2 h hh).2.2 j h1 h2
  · unfold wpX_fill
    refine cf_badX hg ?_
    refine br_t rfl ?_
    unfold wpY_fill
    refine cf_badY hg ?_
    exact br_f cf_10 ⟨rfl, cf_mk R⟩
section
variable {T F L : Nat} {mem : Nat → Int32} {kd ct ow pg pl sz op cn : Nat → Nat} {scr : Nat → Int32} {wd : Nat → Int32}
theorem cf_yexch {post : Int32 → SY → Prop} {a b : Nat} {w : Nat → Nat → Int32} (ha : a < 64) (hb : b < 64) (hw : ∀ i, i < 16 → upd (upd (w i) (16 * a + i) (w i (16 * b + i))) (16 * b + i) (w i (16 * a + i)) = w (i + 1)) (H : post 0 (cf_Y T sz (w 16))) :
    ∀ d i n, i + d = 16 → d < n → wY_exchange_47 post (nI a) (nI b) (nI T) n (nI i) (cf_n sz) (w i) := by
  intro d
  induction d with
  | zero =>
    intro i n hi hd
    have : i = 16 := by omega
    subst this
    cases n with
    | zero => omega
    | succ n => exact br_t (nI_le (a := 16) (b := 16) (by omega) (by decide)) H
  | succ d ih =>
    intro i n hi hd
    cases n with
    | zero => omega
    | succ n =>
      have i1 : vp_in (16 * nI a + nI i) 1024 := by rw [cf_i16]; exact vp_in_nI (by omega) (by omega)
      have i2 : vp_in (16 * nI b + nI i) 1024 := by rw [cf_i16]; exact vp_in_nI (by omega) (by omega)
      refine br_f (nI_ge (b := 16) (by omega) (by decide)) ⟨i1, nm_e ⟨i2, i1, nm_e ⟨i2, nm_r ?_ (nm_r (nI_1 i) (ih (i + 1) n (by omega) (by omega)))⟩⟩⟩
      rw [cf_i16, cf_i16, nI_clamp (by omega), nI_clamp (by omega)]
      exact hw i (by omega)
theorem cf_swW (wd : Nat → Int32) {a b : Nat} : ∃ w : Nat → Nat → Int32, w 0 = wd ∧ (∀ i, i < 16 → upd (upd (w i) (16 * a + i) (w i (16 * b + i))) (16 * b + i) (w i (16 * a + i)) = w (i + 1)) ∧
    (∀ k, k < 16 → w 16 (16 * a + k) = wd (16 * b + k)) ∧ (∀ k, k < 16 → w 16 (16 * b + k) = wd (16 * a + k)) ∧ (∀ c k, c ≠ a → c ≠ b → k < 16 → w 16 (16 * c + k) = wd (16 * c + k)) := by
  by_cases e : a = b
  · subst e
    refine ⟨fun _ => wd, rfl, fun i hi => ?_, fun k hk => rfl, fun k hk => rfl, fun c k _ _ _ => rfl⟩
    show upd (upd wd (16 * a + i) (wd (16 * a + i))) (16 * a + i) (wd (16 * a + i)) = wd
    rw [cf_upd_id, cf_upd_id]
  · refine ⟨fun i => cf_wr (cf_wr wd (16 * b) i (fun k => wd (16 * a + k))) (16 * a) i (fun k => wd (16 * b + k)), ?_, fun i hi => ?_, fun k hk => cf_wr_in hk, fun k hk => ?_, fun c k h1 h2 hk => ?_⟩
    · show cf_wr (cf_wr wd (16 * b) 0 _) (16 * a) 0 _ = wd
      rw [cf_wr_0, cf_wr_0]
    · show upd (upd (cf_wr (cf_wr wd (16 * b) i (fun k => wd (16 * a + k))) (16 * a) i (fun k => wd (16 * b + k))) (16 * a + i) (cf_wr (cf_wr wd (16 * b) i (fun k => wd (16 * a + k))) (16 * a) i (fun k => wd (16 * b + k)) (16 * b + i))) (16 * b + i) (cf_wr (cf_wr wd (16 * b) i (fun k => wd (16 * a + k))) (16 * a) i (fun k => wd (16 * b + k)) (16 * a + i)) = cf_wr (cf_wr wd (16 * b) (i + 1) (fun k => wd (16 * a + k))) (16 * a) (i + 1) (fun k => wd (16 * b + k))
      have e1 : cf_wr (cf_wr wd (16 * b) i (fun k => wd (16 * a + k))) (16 * a) i (fun k => wd (16 * b + k)) (16 * b + i) = wd (16 * b + i) := by
        rw [cf_wr_out (fun l hl => by omega), cf_wr_out (fun l hl => by omega)]
      have e2 : cf_wr (cf_wr wd (16 * b) i (fun k => wd (16 * a + k))) (16 * a) i (fun k => wd (16 * b + k)) (16 * a + i) = wd (16 * a + i) := by
        rw [cf_wr_out (fun l hl => by omega), cf_wr_out (fun l hl => by omega)]
      rw [e1, e2, cf_wr_s rfl, cf_wr_upd (fun l hl => by omega), cf_wr_s rfl]
    · show cf_wr (cf_wr wd (16 * b) 16 (fun k => wd (16 * a + k))) (16 * a) 16 (fun k => wd (16 * b + k)) (16 * b + k) = _
      rw [cf_wr_out (fun l hl => by omega), cf_wr_in hk]
    · show cf_wr (cf_wr wd (16 * b) 16 (fun k => wd (16 * a + k))) (16 * a) 16 (fun k => wd (16 * b + k)) (16 * c + k) = _
      rw [cf_wr_out (fun l hl => by omega), cf_wr_out (fun l hl => by omega)]
theorem cf_exchR (R : cf_R T F L mem kd ct ow pg pl sz op cn wd) {a b : Nat} (ha : a < 64) (hb : b < 64) (a0 : 0 < sz a) (b0 : 0 < sz b) {wd' : Nat → Int32}
    (wa : ∀ k, k < 16 → wd' (16 * a + k) = wd (16 * b + k)) (wb : ∀ k, k < 16 → wd' (16 * b + k) = wd (16 * a + k)) (wc : ∀ c k, c ≠ a → c ≠ b → k < 16 → wd' (16 * c + k) = wd (16 * c + k)) :
    cf_R T F L mem kd ct (cf_u (cf_u ow (8 * pg b + pl b) (a + 1)) (8 * pg a + pl a) (b + 1)) (cf_u (cf_u pg a (pg b)) b (pg a)) (cf_u (cf_u pl a (pl b)) b (pl a)) (cf_u (cf_u sz a (sz b)) b (sz a)) op cn wd' := by
  have la : cf_l (sz a) ≠ 0 := by rw [Ne, cf_l_0]; omega
  have lb : cf_l (sz b) ≠ 0 := by rw [Ne, cf_l_0]; omega
  refine ⟨?_, ?_⟩
  · by_cases e : a = b
    · subst e
      have e1 : ow (8 * pg a + pl a) = a + 1 := (cf_J_A R.1 a (cf_l (sz a) - 1) ha (show cf_l (sz a) = cf_l (sz a) - 1 + 1 by omega)).2.2.2.2
      rw [cf_uu, cf_uu, cf_uu, cf_uu, cf_uself e1, cf_uself (f := pg) rfl, cf_uself (f := pl) rfl, cf_uself (f := sz) rfl]
      exact R.1
    · rw [cf_l_u, cf_l_u]
      exact cf_swap R.1 ha hb e la lb
  · intro h hh
    have Ma := R.2 a ha
    have Mb := R.2 b hb
    by_cases e1 : h = b
    · subst e1
      rw [cf_us, cf_us, cf_us]
      exact ⟨Ma.1, fun k hk => by rw [wb k (by omega)]; exact Ma.2.1 k hk, fun k h1 h2 => by rw [wb k h2]; exact Ma.2.2 k h1 h2⟩
    · rw [cf_uo e1, cf_uo e1, cf_uo e1]
      by_cases e2 : h = a
      · subst e2
        rw [cf_us, cf_us, cf_us]
        exact ⟨Mb.1, fun k hk => by rw [wa k (by omega)]; exact Mb.2.1 k hk, fun k h1 h2 => by rw [wa k h2]; exact Mb.2.2 k h1 h2⟩
      · rw [cf_uo e2, cf_uo e2, cf_uo e2]
        have Mh := R.2 h hh
        exact ⟨Mh.1, fun k hk => by rw [wc h k e2 e1 (by omega)]; exact Mh.2.1 k hk, fun k h1 h2 => by rw [wc h k e2 e1 h2]; exact Mh.2.2 k h1 h2⟩
end
theorem i_vc_exchange {k : Nat} {u : SX} {v : SY} (I : i_Rel k u v) (hk : k + 4 ≤ 2049) (v1 : Int32) (v2 : Int32) : wpX_exchange (fun r u' => wpY_exchange (fun r' v' => r' = r ∧ i_Rel (k + 4) u' v') v v1 v2) u v1 v2 := by
  refine cf_el (P := fun u v => wpX_exchange (fun r u' => wpY_exchange (fun r' v' => r' = r ∧ i_Rel (k + 4) u' v') v v1 v2) u v1 v2) ?_ I
  intro T F L mem kd ct ow pg pl sz op cn scr wd R
  by_cases hg : ∃ h, h < 64 ∧ v1 = nI h ∧ 0 < sz h
  · obtain ⟨a, ha, rfl, a0⟩ := hg
    have a16 := cf_R_16 R a ha
    have ia : vp_in (nI a) 64 := vp_in_nI ha (by omega)
    unfold wpX_exchange
    refine cf_goodX ha a0 a16 ?_
    refine br_f cf_10 ?_
    by_cases hg2 : ∃ h, h < 64 ∧ v2 = nI h ∧ 0 < sz h
    · obtain ⟨b, hb, rfl, b0⟩ := hg2
      have b16 := cf_R_16 R b hb
      have ib : vp_in (nI b) 64 := vp_in_nI hb (by omega)
      refine cf_goodX hb b0 b16 ?_
      have hT := cf_J_T R.1
      have la : cf_l (sz a) ≠ 0 := by rw [Ne, cf_l_0]; omega
      have lb : cf_l (sz b) ≠ 0 := by rw [Ne, cf_l_0]; omega
      obtain ⟨x1, x2, x3, x4, x5⟩ := cf_J_A R.1 a (cf_l (sz a) - 1) ha (show cf_l (sz a) = cf_l (sz a) - 1 + 1 by omega)
      obtain ⟨y1, y2, y3, y4, y5⟩ := cf_J_A R.1 b (cf_l (sz b) - 1) hb (show cf_l (sz b) = cf_l (sz b) - 1 + 1 by omega)
      have pa := cf_p_pos _ x1
      have pb := cf_p_pos _ y1
      have ga : cf_u (cf_u pg a (pg b)) b (pg a) a = pg b := by
        by_cases e : a = b
        · subst e; rw [cf_us]
        · rw [cf_uo e, cf_us]
      have gl : cf_u (cf_u pl a (pl b)) b (pl a) a = pl b := by
        by_cases e : a = b
        · subst e; rw [cf_us]
        · rw [cf_uo e, cf_us]
      have ra : 8 * cf_n (cf_u (cf_u pg a (pg b)) b (pg a)) (nI a).toNatClampNeg + cf_n (cf_u (cf_u pl a (pl b)) b (pl a)) (nI a).toNatClampNeg = nI (8 * pg b + pl b) := by
        rw [cf_rn (by omega), cf_rn (by omega), ga, gl, cf_i8]
      have rb : 8 * cf_n (cf_u (cf_u pg a (pg b)) b (pg a)) (nI b).toNatClampNeg + cf_n (cf_u (cf_u pl a (pl b)) b (pl a)) (nI b).toNatClampNeg = nI (8 * pg a + pl a) := by
        rw [cf_rn (by omega), cf_rn (by omega), cf_us, cf_us, cf_i8]
      have f1 : ∀ f : Nat → Nat, upd (cf_n f) (nI a).toNatClampNeg (cf_n f (nI b).toNatClampNeg) = cf_n (cf_u f a (f b)) := fun f => by rw [cf_rn (by omega), cf_wn (by omega)]
      refine br_f cf_10 ⟨ia, nm_r (cf_rn (by omega)) ⟨ia, nm_r (cf_rn (by omega)) ⟨ia, nm_r (cf_rn (by omega)) ⟨ib, ia, nm_r (f1 pg) ⟨ib, ia, nm_r (f1 pl) ⟨ib, ia, nm_r (f1 sz) ⟨ib, nm_r (cf_wn (by omega)) ⟨ib, nm_r (cf_wn (by omega)) ⟨ib, nm_r (cf_wn (by omega)) ⟨ia, ia, ?_⟩⟩⟩⟩⟩⟩⟩⟩⟩⟩
      refine ⟨by rw [ra]; exact vp_in_nI (by omega) (by omega), nm_r (e' := cf_e (cf_u ow (8 * pg b + pl b) (a + 1))) (by rw [ra, cf_we (by omega)]) ⟨ib, ib, by rw [rb]; exact vp_in_nI (by omega) (by omega), nm_r (e' := cf_e (cf_u (cf_u ow (8 * pg b + pl b) (a + 1)) (8 * pg a + pl a) (b + 1))) (by rw [rb, cf_we (by omega)]) ?_⟩⟩
      unfold wpY_exchange
      refine cf_goodY ha a0 a16 ?_
      refine br_t rfl ?_
      refine cf_goodY hb b0 b16 ?_
      obtain ⟨w, w0, w1, w2, w3, w4⟩ := cf_swW wd (a := a) (b := b)
      refine br_t rfl ⟨ia, nm_r (cf_rn (by omega)) ⟨ib, ia, nm_r (f1 sz) ⟨ib, nm_r (cf_wn (by omega)) ⟨17, ?_⟩⟩⟩⟩
      rw [← w0]
      exact cf_yexch ha hb w1 ⟨rfl, cf_mk (cf_exchR R ha hb a0 b0 w2 w3 w4)⟩ 16 0 17 (by omega) (by omega)
    · refine cf_badX hg2 ?_
      refine br_t rfl ?_
      unfold wpY_exchange
      refine cf_goodY ha a0 a16 ?_
      refine br_t rfl ?_
      refine cf_badY hg2 ?_
      exact br_f cf_10 ⟨rfl, cf_mk R⟩
  · unfold wpX_exchange
    refine cf_badX hg ?_
    refine br_t rfl ?_
    unfold wpY_exchange
    refine cf_badY hg ?_
    exact br_f cf_10 ⟨rfl, cf_mk R⟩
end
section
/-! free, freeClass -/
section
variable {T F L : Nat} {mem : Nat → Int32} {kd ct ow pg pl sz op cn : Nat → Nat} {scr : Nat → Int32} {wd : Nat → Int32}
theorem cf_ywipe9 {post : SY → Prop} {h : Nat} (hh : h < 64) (H : post (cf_Y T sz (cf_wr wd (16 * h) 16 (fun _ => 0)))) :
    ∀ d i n, i + d = 16 → d < n → wY_wipe_9 post (nI h) (nI T) n (nI i) (cf_n sz) (cf_wr wd (16 * h) i (fun _ => 0)) := by
  intro d
  induction d with
  | zero =>
    intro i n hi hd
    have : i = 16 := by omega
    subst this
    cases n with
    | zero => omega
    | succ n => exact br_t (nI_le (a := 16) (b := 16) (by omega) (by decide)) H
  | succ d ih =>
    intro i n hi hd
    cases n with
    | zero => omega
    | succ n =>
      refine br_f (nI_ge (b := 16) (by omega) (by decide)) ⟨?_, nm_r ?_ (nm_r (nI_1 i) (ih (i + 1) n (by omega) (by omega)))⟩
      · rw [cf_i16]; exact vp_in_nI (by omega) (by omega)
      · rw [cf_i16, nI_clamp (by omega)]
        exact cf_wr_s rfl
theorem cf_ywipe {post : SY → Prop} {h : Nat} (hh : h < 64) (H : post (cf_Y T (cf_u sz h 0) (cf_wr wd (16 * h) 16 (fun _ => 0)))) : wpY_wipe post (cf_Y T sz wd) (nI h) := by
  refine ⟨vp_in_nI hh (by omega), nm_r (cf_wn (x := 0) (by omega)) ⟨17, ?_⟩⟩
  have W := cf_ywipe9 hh H 16 0 17 (by omega) (by omega)
  rw [cf_wr_0] at W
  exact W
theorem cf_freeW (R : cf_R T F L mem kd ct ow pg pl sz op cn wd) {h : Nat} (hh : h < 64) (h0 : 0 < sz h) :
    ∃ (F' L' : Nat) (mem' : Nat → Int32) (kd' ct' ow' pg' pl' op' cn' : Nat → Nat), cf_R T F' L' mem' kd' ct' ow' pg' pl' (cf_u sz h 0) op' cn' (cf_wr wd (16 * h) 16 (fun _ => 0)) ∧
      ∀ (post : SX → Prop) (scr : Nat → Int32), post (cf_X T F' L' mem' kd' ct' ow' pg' pl' sz op' cn' scr) → wpX_removeObject post (cf_X T F L mem kd ct ow pg pl sz op cn scr) (nI h) := by
  have hl : cf_l (sz h) ≠ 0 := by rw [Ne, cf_l_0]; omega
  obtain ⟨F', L', mem', kd', ct', ow', pg', pl', op', cn', J', hm, W⟩ := cf_removeW R.1 (h := h) (c := cf_l (sz h) - 1) hh (show cf_l (sz h) = cf_l (sz h) - 1 + 1 by omega) mem
  refine ⟨F', L', mem', kd', ct', ow', pg', pl', op', cn', ⟨?_, ?_⟩, fun post scr H => W post sz scr H⟩
  · rw [cf_l_u]
    exact J'
  · refine cf_M_set R.2 (h := h) (fun a ha e => ⟨cf_uo e, fun j hj => ?_, fun j hj => cf_wd_other (by omega) e hj⟩) ⟨by rw [cf_us]; omega, fun j hj => ?_, fun j h1 h2 => ?_⟩
    · exact hm a ha e (show cf_l (sz a) ≠ 0 by rw [Ne, cf_l_0]; omega) j (cf_fit (cf_R_16 R a ha) hj)
    · rw [cf_us] at hj; omega
    · exact cf_wr_in h2
end
theorem i_vc_free {k : Nat} {u : SX} {v : SY} (I : i_Rel k u v) (hk : k + 4 ≤ 2049) (v1 : Int32) : wpX_free (fun r u' => wpY_free (fun r' v' => r' = r ∧ i_Rel (k + 4) u' v') v v1) u v1 := by
  refine cf_el (P := fun u v => wpX_free (fun r u' => wpY_free (fun r' v' => r' = r ∧ i_Rel (k + 4) u' v') v v1) u v1) ?_ I
  intro T F L mem kd ct ow pg pl sz op cn scr wd R
  by_cases hg : ∃ h, h < 64 ∧ v1 = nI h ∧ 0 < sz h
  · obtain ⟨h, hh, rfl, h0⟩ := hg
    have h16 := cf_R_16 R h hh
    have i0 : vp_in (nI h) 64 := vp_in_nI hh (by omega)
    obtain ⟨F', L', mem', kd', ct', ow', pg', pl', op', cn', R', W⟩ := cf_freeW R hh h0
    unfold wpX_free
    refine cf_goodX hh h0 h16 ?_
    refine br_f cf_10 ⟨i0, nm_r (cf_rn (by omega)) ?_⟩
    refine W _ _ ?_
    refine ⟨i0, nm_r (cf_wn (x := 0) (by omega)) ?_⟩
    unfold wpY_free
    refine cf_goodY hh h0 h16 ?_
    refine br_t rfl ⟨i0, nm_r (cf_rn (by omega)) ?_⟩
    exact cf_ywipe hh ⟨rfl, cf_mk R'⟩
  · unfold wpX_free
    refine cf_badX hg ?_
    refine br_t rfl ?_
    unfold wpY_free
    refine cf_badY hg ?_
    exact br_f cf_10 ⟨rfl, cf_mk R⟩
theorem cf_fc {c : Nat} (hc : c < 4) : ∀ (d i : Nat) (x : Int32) (T F L : Nat) (mem : Nat → Int32) (kd ct ow pg pl sz op cn : Nat → Nat) (scr wd : Nat → Int32), i + d = 64 → cf_R T F L mem kd ct ow pg pl sz op cn wd →
    ∃ (r : Int32) (u' : SX) (v' : SY), i_Rel 0 u' v' ∧ (∀ post : Int32 → SX → Prop, post r u' → wX_freeClass_13 post (nI c) (d + 1) x (nI i) (nI T) (nI F) (nI L) mem (cf_e kd) (cf_n ct) (cf_e ow) (cf_n pg) (cf_n pl) (cf_n sz) (cf_e op) (cf_n cn) scr) ∧
      (∀ post : Int32 → SY → Prop, post r v' → wY_freeClass_15 post (nI c) (d + 1) x (nI i) (nI T) (cf_n sz) wd) := by
  intro d
  induction d with
  | zero =>
    intro i x T F L mem kd ct ow pg pl sz op cn scr wd hi R
    have g : (64 : Int32) ≤ nI i := nI_le (a := 64) (by omega) (by omega)
    exact ⟨x, _, _, cf_mk (scr := scr) R, fun post H => br_t g H, fun post H => br_t g H⟩
  | succ d ih =>
    intro i x T F L mem kd ct ow pg pl sz op cn scr wd hi R
    have g : ¬ (64 : Int32) ≤ nI i := nI_ge (b := 64) (by omega) (by decide)
    have i0 : vp_in (nI i) 64 := vp_in_nI (by omega) (by omega)
    have h6 := cf_R_16 R i (by omega)
    have es : cf_n sz (nI i).toNatClampNeg = nI (sz i) := cf_rn (by omega)
    by_cases z : sz i = 0
    · obtain ⟨r, u', v', I, hX, hY⟩ := ih (i + 1) x T F L mem kd ct ow pg pl sz op cn scr wd (by omega) R
      have e : cf_n sz (nI i).toNatClampNeg ≤ 0 := by
        rw [es, z]
        exact Int32.le_refl _
      exact ⟨r, u', v', I, fun post H => br_f g ⟨i0, br_t e (nm_r (nI_1 i) (hX post H))⟩, fun post H => br_f g ⟨i0, br_t e (nm_r (nI_1 i) (hY post H))⟩⟩
    · have e : ¬ cf_n sz (nI i).toNatClampNeg ≤ 0 := by
        rw [es]
        exact nI_nle (by omega) (by omega)
      have hT := cf_J_T R.1
      have hl : cf_l (sz i) ≠ 0 := by rw [Ne, cf_l_0]; omega
      have hl4 := cf_l_le (sz i)
      obtain ⟨x1, x2, x3, x4, x5⟩ := cf_J_A R.1 i (cf_l (sz i) - 1) (by omega) (show cf_l (sz i) = cf_l (sz i) - 1 + 1 by omega)
      have ep : cf_n pg (nI i).toNatClampNeg = nI (pg i) := cf_rn (by omega)
      have i1 : vp_in (cf_n pg (nI i).toNatClampNeg) 12 := by rw [ep]; exact vp_in_nI (by omega) (by omega)
      have ek : cf_e kd (cf_n pg (nI i).toNatClampNeg).toNatClampNeg = nI (cf_l (sz i) - 1) := by
        rw [ep, cf_rs x3 (by omega)]
      by_cases y : cf_l (sz i) = c + 1
      · obtain ⟨F', L', mem', kd', ct', ow', pg', pl', op', cn', R', W⟩ := cf_freeW R (h := i) (by omega) (by omega)
        obtain ⟨r, u', v', I, hX, hY⟩ := ih (i + 1) (x + 1) T F' L' mem' kd' ct' ow' pg' pl' (cf_u sz i 0) op' cn' scr _ (by omega) R'
        refine ⟨r, u', v', I, fun post H => br_f g ⟨i0, br_f e ⟨i0, i1, br_t (by rw [ek, y]; rfl) (W _ scr ?_)⟩⟩, fun post H => br_f g ⟨i0, br_f e ⟨i0, ?_⟩⟩⟩
        · exact ⟨i0, nm_r (cf_wn (x := 0) (by omega)) (nm_e (nm_r (nI_1 i) (hX post H)))⟩
        · rw [es]
          refine cf_kindY (by omega) h6 (br_t (by rw [y]; rfl) (cf_ywipe (by omega) ?_))
          exact nm_e (nm_r (nI_1 i) (hY post H))
      · obtain ⟨r, u', v', I, hX, hY⟩ := ih (i + 1) x T F L mem kd ct ow pg pl sz op cn scr wd (by omega) R
        have en : ¬ nI (cf_l (sz i) - 1) = nI c := fun q => y (by have := (nI_eq (by omega) (by omega)).mp q; omega)
        refine ⟨r, u', v', I, fun post H => br_f g ⟨i0, br_f e ⟨i0, i1, br_f (by rw [ek]; exact en) (nm_r (nI_1 i) (hX post H))⟩⟩, fun post H => br_f g ⟨i0, br_f e ⟨i0, ?_⟩⟩⟩
        rw [es]
        exact cf_kindY (by omega) h6 (br_f en (nm_r (nI_1 i) (hY post H)))
theorem i_vc_freeClass {k : Nat} {u : SX} {v : SY} (I : i_Rel k u v) (hk : k + 4 ≤ 2049) (v1 : Int32) : wpX_freeClass (fun r u' => wpY_freeClass (fun r' v' => r' = r ∧ i_Rel (k + 4) u' v') v v1) u v1 := by
  refine cf_el (P := fun u v => wpX_freeClass (fun r u' => wpY_freeClass (fun r' v' => r' = r ∧ i_Rel (k + 4) u' v') v v1) u v1) ?_ I
  intro T F L mem kd ct ow pg pl sz op cn scr wd R
  unfold wpX_freeClass
  refine cf_isKindW ?_ ?_
  · intro hn
    exact br_t rfl (cf_kindN hn ⟨rfl, cf_mk R⟩)
  · intro c hc e
    subst e
    obtain ⟨r, u', v', I', hX, hY⟩ := cf_fc hc 64 0 0 T F L mem kd ct ow pg pl sz op cn scr wd (by omega) R
    refine br_f cf_10 ⟨65, hX _ ?_⟩
    exact br_f (nI_pos (by omega)) (br_t (nI_le (b := 3) (by omega) (by decide)) ⟨65, hY _ ⟨rfl, I'⟩⟩)
end
section
/-! allocate, copy -/
section
variable {T F L : Nat} {mem : Nat → Int32} {kd ct ow pg pl sz op cn : Nat → Nat} {scr : Nat → Int32} {wd : Nat → Int32} {lv : Nat → Nat}
theorem cf_xwipe10 {post : SX → Prop} {b fr to : Nat} (hb : b + to ≤ 192) (hf : fr ≤ to) (H : post (cf_X T F L (cf_wr mem (b + fr) (to - fr) (fun _ => 0)) kd ct ow pg pl sz op cn scr)) :
    ∀ d i n, i + d = to → fr ≤ i → d < n → wX_wipe_10 post (nI to) (nI b) (nI T) (nI F) (nI L) n (nI i) (cf_wr mem (b + fr) (i - fr) (fun _ => 0)) (cf_e kd) (cf_n ct) (cf_e ow) (cf_n pg) (cf_n pl) (cf_n sz) (cf_e op) (cf_n cn) scr := by
  intro d
  induction d with
  | zero =>
    intro i n hi hfi hd
    have : i = to := by omega
    subst this
    cases n with
    | zero => omega
    | succ n => exact br_t (nI_le (Nat.le_refl _) (by omega)) H
  | succ d ih =>
    intro i n hi hfi hd
    cases n with
    | zero => omega
    | succ n =>
      refine br_f (nI_ge (by omega) (by omega)) ⟨?_, nm_r ?_ (nm_r (nI_1 i) (ih (i + 1) n (by omega) (by omega) (by omega)))⟩
      · rw [nI_add]; exact vp_in_nI (by omega) (by omega)
      · rw [nI_add, nI_clamp (by omega), show b + i = b + fr + (i - fr) by omega, show i + 1 - fr = i - fr + 1 by omega]
        exact cf_wr_s rfl
theorem cf_xwipe {post : SX → Prop} (J : cf_J T F L kd ct ow pg pl op cn lv) {h fr to : Nat} (hh : h < 64) (hl : lv h ≠ 0) (hfr : fr < 2 ^ 31) (hto : to ≤ 2 ^ lv h) (H : post (cf_X T F L (cf_wr mem (16 * pg h + pl h * 2 ^ lv h + fr) (to - fr) (fun _ => 0)) kd ct ow pg pl sz op cn scr)) : wpX_wipe post (cf_X T F L mem kd ct ow pg pl sz op cn scr) (nI h) (nI fr) (nI to) := by
  have hw := cf_within J hh hl (k := 2 ^ lv h - 1) (by have := Nat.two_pow_pos (lv h); omega)
  have hp := Nat.two_pow_pos (lv h)
  unfold wpX_wipe
  refine cf_baseW J hh hl ?_
  by_cases e : fr ≤ to
  · refine ⟨to + 1, ?_⟩
    have W := cf_xwipe10 (b := 16 * pg h + pl h * 2 ^ lv h) (by omega) e H (to - fr) fr (to + 1) (by omega) (by omega) (by omega)
    rw [Nat.sub_self, cf_wr_0] at W
    exact W
  · refine ⟨1, br_t (nI_le (by omega) hfr) ?_⟩
    rw [show to - fr = 0 by omega, cf_wr_0] at H
    exact H
theorem cf_xleast {post : Int32 → Prop} {h : Nat} (h16 : ∀ h, h < 64 → sz h ≤ 16) (hh : h < 64) (h0 : sz h = 0) (hn : ∀ j, j < h → ¬ sz j = 0) (H : post (nI h)) :
    ∀ d i n, i + d = h → d < n → wX_leastFree_2 post (nI T) (nI F) (nI L) mem (cf_e kd) (cf_n ct) (cf_e ow) (cf_n pg) (cf_n pl) (cf_n sz) (cf_e op) (cf_n cn) scr n (nI i) := by
  intro d
  induction d with
  | zero =>
    intro i n hi hd
    have : i = h := by omega
    subst this
    cases n with
    | zero => omega
    | succ n =>
      refine br_f (nI_ge (b := 64) hh (by decide)) ⟨vp_in_nI hh (by omega), br_t ?_ H⟩
      rw [cf_rn (by omega), h0]
      rfl
  | succ d ih =>
    intro i n hi hd
    cases n with
    | zero => omega
    | succ n =>
      refine br_f (nI_ge (b := 64) (by omega) (by decide)) ⟨vp_in_nI (by omega) (by omega), br_f ?_ (nm_r (nI_1 i) (ih (i + 1) n (by omega) (by omega)))⟩
      rw [cf_rn (by omega)]
      exact nI_ne0 (by have := hn i (by omega); omega) (by have := h16 i (by omega); omega)
theorem cf_yleast {post : Int32 → Prop} {h : Nat} (h16 : ∀ h, h < 64 → sz h ≤ 16) (hh : h < 64) (h0 : sz h = 0) (hn : ∀ j, j < h → ¬ sz j = 0) (H : post (nI h)) :
    ∀ d i n, i + d = h → d < n → wY_leastFree_2 post (nI T) (cf_n sz) wd n (nI i) := by
  intro d
  induction d with
  | zero =>
    intro i n hi hd
    have : i = h := by omega
    subst this
    cases n with
    | zero => omega
    | succ n =>
      refine br_f (nI_ge (b := 64) hh (by decide)) ⟨vp_in_nI hh (by omega), br_t ?_ H⟩
      rw [cf_rn (by omega), h0]
      rfl
  | succ d ih =>
    intro i n hi hd
    cases n with
    | zero => omega
    | succ n =>
      refine br_f (nI_ge (b := 64) (by omega) (by decide)) ⟨vp_in_nI (by omega) (by omega), br_f ?_ (nm_r (nI_1 i) (ih (i + 1) n (by omega) (by omega)))⟩
      rw [cf_rn (by omega)]
      exact nI_ne0 (by have := hn i (by omega); omega) (by have := h16 i (by omega); omega)
theorem cf_yleastN {post : Int32 → Prop} (h16 : ∀ h, h < 64 → sz h ≤ 16) (hn : ∀ j, j < 64 → ¬ sz j = 0) (H : post (-1)) :
    ∀ d i n, i + d = 64 → d < n → wY_leastFree_2 post (nI T) (cf_n sz) wd n (nI i) := by
  intro d
  induction d with
  | zero =>
    intro i n hi hd
    cases n with
    | zero => omega
    | succ n => exact br_t (nI_le (a := 64) (by omega) (by omega)) H
  | succ d ih =>
    intro i n hi hd
    cases n with
    | zero => omega
    | succ n =>
      refine br_f (nI_ge (b := 64) (by omega) (by decide)) ⟨vp_in_nI (by omega) (by omega), br_f ?_ (nm_r (nI_1 i) (ih (i + 1) n (by omega) (by omega)))⟩
      rw [cf_rn (by omega)]
      exact nI_ne0 (by have := hn i (by omega); omega) (by have := h16 i (by omega); omega)
/-- an object of kind c can be placed just where the reference's formula says so -/
theorem cf_rooms (R : cf_R T F L mem kd ct ow pg pl sz op cn wd) {c : Nat} (hc : c < 4) : cf_nd (cf_u cn c (cn c + 1)) ≤ T ↔ ¬ (op c = 0 ∧ F = 0) := by
  have hN := cf_J_N R.1
  have hT := cf_J_T R.1
  obtain ⟨e1, e2⟩ := cf_J_E R.1 c hc
  rw [cf_nd_inc cn c hc]
  cases ho : op c with
  | zero =>
    rw [if_pos (e1 ho)]
    omega
  | succ p =>
    obtain ⟨f1, f2, f3, f4⟩ := e2 p ho
    have hD := cf_J_D R.1 p c (by omega) f2
    rw [if_neg (by omega)]
    omega
theorem cf_nd_lt (R : cf_R T F L mem kd ct ow pg pl sz op cn wd) {c : Nat} (hc : c < 4) : cf_nd (cf_u cn c (cn c + 1)) < 2 ^ 31 := by
  have hN := cf_J_N R.1
  have hT := cf_J_T R.1
  rw [cf_nd_inc cn c hc]
  split <;> omega
theorem cf_alloc (R : cf_R T F L mem kd ct ow pg pl sz op cn wd) {x : Nat} (h1 : 1 ≤ x) (h2 : x ≤ 16) :
    (∃ r : Int32, r < 0 ∧ (∀ (post : Int32 → SX → Prop) (scr : Nat → Int32), post r (cf_X T F L mem kd ct ow pg pl sz op cn scr) → wpX_allocate post (cf_X T F L mem kd ct ow pg pl sz op cn scr) (nI x)) ∧ (∀ post : Int32 → SY → Prop, post r (cf_Y T sz wd) → wpY_allocate post (cf_Y T sz wd) (nI x))) ∨
    (∃ (h F' L' : Nat) (mem' : Nat → Int32) (kd' ct' ow' pg' pl' op' cn' : Nat → Nat), h < 64 ∧ sz h = 0 ∧ cf_R T F' L' mem' kd' ct' ow' pg' pl' (cf_u sz h x) op' cn' (cf_wr wd (16 * h) 16 (fun _ => 0)) ∧
      (∀ (post : Int32 → SX → Prop) (scr : Nat → Int32), post (nI h) (cf_X T F' L' mem' kd' ct' ow' pg' pl' (cf_u sz h x) op' cn' scr) → wpX_allocate post (cf_X T F L mem kd ct ow pg pl sz op cn scr) (nI x)) ∧
      (∀ post : Int32 → SY → Prop, post (nI h) (cf_Y T (cf_u sz h x) (cf_wr wd (16 * h) 16 (fun _ => 0))) → wpY_allocate post (cf_Y T sz wd) (nI x))) := by
  have h16 := cf_R_16 R
  have hL := cf_J_L R.1
  have hT := cf_J_T R.1
  have hN := cf_J_N R.1
  have y1 : ¬ nI x < 1 := nI_nlt (b := 1) h1 (by omega)
  have y2 : nI x ≤ 16 := nI_le (b := 16) h2 (by decide)
  have hsz : ∀ (post : Int32 → Prop), post 1 → wpX_isSize post (nI x) := fun post H => br_f y1 (br_f (nI_nlt (a := 16) h2 (by decide)) H)
  have lx0 : cf_l x ≠ 0 := by rw [Ne, cf_l_0]; omega
  have lx4 := cf_l_le x
  by_cases hfree : ∃ h, h < 64 ∧ sz h = 0
  · obtain ⟨h, hh, h0, hmin⟩ := cf_least hfree
    have hl0 : cf_l (sz h) = 0 := (cf_l_0 _).mpr h0
    have hq := cf_q_pos (f := fun h => cf_l (sz h)) (v := 0) (j := h) hl0 64 hh
    have hLn : ¬ nI L = 64 := fun z => by have := (nI_eq (a := L) (b := 64) (by omega) (by decide)).mp z; omega
    obtain ⟨c, ec⟩ : ∃ c, cf_l x = c + 1 := ⟨cf_l x - 1, by omega⟩
    have hc : c < 4 := by omega
    have ecm : cf_l x - 1 = c := by omega
    have i4 : vp_in (nI c) 4 := vp_in_nI hc (by omega)
    have hX : ∀ (post : Int32 → SX → Prop) (scr : Nat → Int32), (op c = 0 ∧ F = 0 → post (-3) (cf_X T F L mem kd ct ow pg pl sz op cn scr)) → (¬ (op c = 0 ∧ F = 0) → wX_allocate_46 post (nI x) (nI c) (nI T) (nI F) (nI L) mem (cf_e kd) (cf_n ct) (cf_e ow) (cf_n pg) (cf_n pl) (cf_n sz) (cf_e op) (cf_n cn) scr) → wpX_allocate post (cf_X T F L mem kd ct ow pg pl sz op cn scr) (nI x) := by
      intro post scr K1 K2
      unfold wpX_allocate
      refine hsz _ ?_
      refine br_f cf_10 (br_f hLn ?_)
      refine cf_kindX h1 h2 ?_
      rw [ecm]
      refine ⟨i4, ?_⟩
      cases ho : op c with
      | zero =>
        refine br_t (by rw [cf_re (by omega), ho]; rfl) (pk_eq F 0 (fun z => K1 ⟨ho, z⟩) (fun z => K2 (fun y => z y.2)) rfl rfl (by omega) (by omega))
      | succ p =>
        refine br_f ?_ (K2 (fun y => by omega))
        rw [cf_re (by omega)]
        exact cf_I_ne (cf_op_lt R.1 hc) (by omega)
    have hY : ∀ (post : Int32 → SY → Prop), (op c = 0 ∧ F = 0 → post (-3) (cf_Y T sz wd)) → (¬ (op c = 0 ∧ F = 0) → post (nI h) (cf_Y T (cf_u sz h x) (cf_wr wd (16 * h) 16 (fun _ => 0)))) → wpY_allocate post (cf_Y T sz wd) (nI x) := by
      intro post K1 K2
      refine br_f y1 (br_t y2 ⟨65, ?_⟩)
      refine cf_yleast h16 hh h0 hmin ?_ h 0 65 (by omega) (by omega)
      refine br_t (nI_pos' (by omega)) ?_
      refine cf_kindY h1 h2 ?_
      rw [ecm]
      refine cf_needs1 (m := 1) R hc (by omega) ?_
      refine pk_le (cf_nd (cf_u cn c (cn c + 1))) T (fun z => ?_) (fun z => ?_) rfl rfl (cf_nd_lt R hc) (by omega)
      · refine cf_ywipe hh ?_
        refine ⟨vp_in_nI hh (by omega), nm_r (cf_wn (by omega)) ?_⟩
        rw [cf_uu]
        exact K2 ((cf_rooms R hc).mp z)
      · refine K1 (Classical.byContradiction fun y => ?_)
        have := (cf_rooms R hc).mpr y
        omega
    by_cases hr : op c = 0 ∧ F = 0
    · exact Or.inl ⟨-3, by decide, fun post scr H => hX post scr (fun _ => H) (fun z => absurd hr z), fun post H => hY post (fun _ => H) (fun z => absurd hr z)⟩
    · obtain ⟨F', L', kd', ct', ow', pg', pl', op', cn', J', hpg, W⟩ := cf_placeW R.1 hh hc hl0 (fun z => by omega)
      rw [← ec, ← cf_l_u] at J'
      have hlv : cf_l (cf_u sz h x h) = cf_l x := by rw [cf_us]
      refine Or.inr ⟨h, F', L', cf_wr mem (16 * pg' h + pl' h * 2 ^ cf_l (cf_u sz h x h) + 0) (x - 0) (fun _ => 0), kd', ct', ow', pg', pl', op', cn', hh, h0, ⟨J', ?_⟩, fun post scr H => hX post scr (fun z => absurd z hr) (fun _ => ?_), fun post H => hY post (fun z => absurd z hr) (fun _ => H)⟩
      · refine cf_M_set R.2 (h := h) (fun a ha e => ⟨cf_uo e, fun j hj => ?_, fun j hj => cf_wd_other (by omega) e hj⟩) ⟨by rw [cf_us]; exact h2, fun j hj => ?_, fun j g1 g2 => cf_wr_in g2⟩
        · have la : cf_l (sz a) ≠ 0 := by rw [Ne, cf_l_0]; omega
          have ea : cf_u sz h x a = sz a := cf_uo e
          rw [cf_wr_out, (hpg a e).1, (hpg a e).2]
          intro l hl
          have hap := cf_apart J' ha hh e (by show cf_l (cf_u sz h x a) ≠ 0; rw [ea]; exact la) (by show cf_l (cf_u sz h x h) ≠ 0; rw [hlv]; exact lx0) (k := j) (l := 0 + l) (by show j < 2 ^ cf_l (cf_u sz h x a); rw [ea]; exact cf_fit (h16 a ha) hj) (by show 0 + l < 2 ^ cf_l (cf_u sz h x h); rw [hlv]; exact cf_fit h2 (by omega))
          rw [ea] at hap
          omega
        · rw [cf_us] at hj
          rw [cf_wr_in (by omega)]
          exact cf_wr_in (by omega)
      · refine ⟨65, cf_xleast h16 hh h0 hmin ?_ h 0 65 (by omega) (by omega)⟩
        refine ⟨vp_in_nI hh (by omega), nm_r (cf_wn (by omega)) (W _ mem (cf_u sz h x) scr ?_)⟩
        refine cf_xwipe (fr := 0) J' hh (by show cf_l (cf_u sz h x h) ≠ 0; rw [hlv]; exact lx0) (by omega) (by show x ≤ 2 ^ cf_l (cf_u sz h x h); rw [hlv]; exact cf_l_fit x h2) ?_
        exact H
  · have hn : ∀ j, j < 64 → ¬ sz j = 0 := fun j hj e => hfree ⟨j, hj, e⟩
    have hq := cf_q_zero (f := fun h => cf_l (sz h)) (v := 0) 64 (fun j hj e => hn j hj ((cf_l_0 _).mp e))
    have : L = 64 := by omega
    subst this
    refine Or.inl ⟨-2, by decide, fun post scr H => ?_, fun post H => ?_⟩
    · unfold wpX_allocate
      refine hsz _ ?_
      exact br_f cf_10 (br_t rfl H)
    · refine br_f y1 (br_t y2 ⟨65, ?_⟩)
      refine cf_yleastN h16 hn ?_ 64 0 65 (by omega) (by omega)
      exact br_f (by decide) H
end
theorem i_vc_allocate {k : Nat} {u : SX} {v : SY} (I : i_Rel k u v) (hk : k + 4 ≤ 2049) (v1 : Int32) : wpX_allocate (fun r u' => wpY_allocate (fun r' v' => r' = r ∧ i_Rel (k + 4) u' v') v v1) u v1 := by
  refine cf_el (P := fun u v => wpX_allocate (fun r u' => wpY_allocate (fun r' v' => r' = r ∧ i_Rel (k + 4) u' v') v v1) u v1) ?_ I
  intro T F L mem kd ct ow pg pl sz op cn scr wd R
  by_cases hs : ∃ s, 1 ≤ s ∧ s ≤ 16 ∧ v1 = nI s
  · obtain ⟨x, h1, h2, rfl⟩ := hs
    rcases cf_alloc R h1 h2 with ⟨r, hr, hX, hY⟩ | ⟨h, F', L', mem', kd', ct', ow', pg', pl', op', cn', hh, h0, R', hX, hY⟩
    · exact hX _ scr (hY _ ⟨rfl, cf_mk R⟩)
    · exact hX _ scr (hY _ ⟨rfl, cf_mk R'⟩)
  · unfold wpX_allocate
    refine cf_sizeW ?_ ?_
    · intro _
      refine br_t rfl ?_
      refine br_c (fun _ => ⟨rfl, cf_mk R⟩) (fun g1 => br_c (fun g2 => absurd ?_ hs) (fun _ => ⟨rfl, cf_mk R⟩))
      obtain ⟨s, hsl, rfl⟩ := nI_of2 (M := 16) (n := 16) (by decide) (fun z => g1 (Int32.lt_trans z (by decide))) g2
      exact ⟨s, Classical.byContradiction fun z => g1 (nI_lt (b := 1) (by omega) (by decide)), hsl, rfl⟩
    · intro s h1 h2 e
      exact absurd ⟨s, h1, h2, e⟩ hs
end
section
/-! copy -/
section
variable {T F L : Nat} {mem : Nat → Int32} {kd ct ow pg pl sz op cn : Nat → Nat} {scr : Nat → Int32} {wd : Nat → Int32}
theorem cf_xcopy {post : Int32 → SX → Prop} {b1 b2 x : Nat} {r : Int32} (h1 : b1 + x ≤ 192) (h2 : b2 + x ≤ 192) (hd : ∀ k l, k < x → l < x → b1 + k ≠ b2 + l) (H : post r (cf_X T F L (cf_wr mem b2 x (fun k => mem (b1 + k))) kd ct ow pg pl sz op cn scr)) :
    ∀ d i n, i + d = x → d < n → wX_copy_46 post (nI x) r (nI b1) (nI b2) (nI T) (nI F) (nI L) n (nI i) (cf_wr mem b2 i (fun k => mem (b1 + k))) (cf_e kd) (cf_n ct) (cf_e ow) (cf_n pg) (cf_n pl) (cf_n sz) (cf_e op) (cf_n cn) scr := by
  intro d
  induction d with
  | zero =>
    intro i n hi hd
    have : i = x := by omega
    subst this
    cases n with
    | zero => omega
    | succ n => exact br_t (nI_le (Nat.le_refl _) (by omega)) H
  | succ d ih =>
    intro i n hi hdn
    cases n with
    | zero => omega
    | succ n =>
      refine br_f (nI_ge (by omega) (by omega)) ⟨?_, ?_, nm_r ?_ (nm_r (nI_1 i) (ih (i + 1) n (by omega) (by omega)))⟩
      · rw [nI_add]; exact vp_in_nI (by omega) (by omega)
      · rw [nI_add]; exact vp_in_nI (by omega) (by omega)
      · rw [nI_add, nI_add, nI_clamp (by omega), nI_clamp (by omega)]
        exact cf_wr_s (cf_wr_out fun l hl => hd i l (by omega) (by omega))
theorem cf_ycopy {post : Int32 → SY → Prop} {a h : Nat} (ha : a < 64) (hh : h < 64) (hah : a ≠ h) (H : post (nI h) (cf_Y T sz (cf_wr wd (16 * h) 16 (fun k => wd (16 * a + k))))) :
    ∀ d i n, i + d = 16 → d < n → wY_copy_29 post (nI a) (nI h) (nI T) n (nI i) (cf_n sz) (cf_wr wd (16 * h) i (fun k => wd (16 * a + k))) := by
  intro d
  induction d with
  | zero =>
    intro i n hi hd
    have : i = 16 := by omega
    subst this
    cases n with
    | zero => omega
    | succ n => exact br_t (nI_le (a := 16) (b := 16) (by omega) (by decide)) H
  | succ d ih =>
    intro i n hi hd
    cases n with
    | zero => omega
    | succ n =>
      refine br_f (nI_ge (b := 16) (by omega) (by decide)) ⟨?_, ?_, nm_r ?_ (nm_r (nI_1 i) (ih (i + 1) n (by omega) (by omega)))⟩
      · rw [cf_i16]; exact vp_in_nI (by omega) (by omega)
      · rw [cf_i16]; exact vp_in_nI (by omega) (by omega)
      · rw [cf_i16, cf_i16, nI_clamp (by omega), nI_clamp (by omega)]
        exact cf_wr_s (cf_wr_out fun l hl => by omega)
end
theorem i_vc_copy {k : Nat} {u : SX} {v : SY} (I : i_Rel k u v) (hk : k + 4 ≤ 2049) (v1 : Int32) : wpX_copy (fun r u' => wpY_copy (fun r' v' => r' = r ∧ i_Rel (k + 4) u' v') v v1) u v1 := by
  refine cf_el (P := fun u v => wpX_copy (fun r u' => wpY_copy (fun r' v' => r' = r ∧ i_Rel (k + 4) u' v') v v1) u v1) ?_ I
  intro T F L mem kd ct ow pg pl sz op cn scr wd R
  by_cases hg : ∃ h, h < 64 ∧ v1 = nI h ∧ 0 < sz h
  · obtain ⟨a, ha, rfl, a0⟩ := hg
    have a16 := cf_R_16 R a ha
    have i0 : vp_in (nI a) 64 := vp_in_nI ha (by omega)
    unfold wpX_copy
    refine cf_goodX ha a0 a16 ?_
    refine br_f cf_10 ⟨i0, nm_r (cf_rn (by omega)) ?_⟩
    rcases cf_alloc R (x := sz a) a0 a16 with ⟨r, hr, hX, hY⟩ | ⟨h, F', L', mem', kd', ct', ow', pg', pl', op', cn', hh, h0, R', hX, hY⟩
    · refine hX _ scr ?_
      refine br_f (Int32.not_le.mpr hr) ?_
      unfold wpY_copy
      refine cf_goodY ha a0 a16 ?_
      refine br_t rfl ⟨i0, ?_⟩
      rw [cf_rn (by omega)]
      refine hY _ ?_
      exact br_f (Int32.not_le.mpr hr) ⟨rfl, cf_mk R⟩
    · refine hX _ scr ?_
      refine br_t (nI_pos' (by omega)) ?_
      have hah : a ≠ h := fun e => by rw [e] at a0; omega
      have ea : cf_u sz h (sz a) a = sz a := cf_uo hah
      have eh : cf_u sz h (sz a) h = sz a := cf_us
      have la : cf_l (cf_u sz h (sz a) a) ≠ 0 := by rw [ea, Ne, cf_l_0]; omega
      have lh : cf_l (cf_u sz h (sz a) h) ≠ 0 := by rw [eh, Ne, cf_l_0]; omega
      have fit : ∀ j, j < sz a → j < 2 ^ cf_l (sz a) := fun j hj => cf_fit a16 hj
      have wa := cf_within R'.1 ha la (k := sz a - 1) (by show _ < 2 ^ cf_l (cf_u sz h (sz a) a); rw [ea]; exact fit _ (by omega))
      have wh := cf_within R'.1 hh lh (k := sz a - 1) (by show _ < 2 ^ cf_l (cf_u sz h (sz a) h); rw [eh]; exact fit _ (by omega))
      have wa' : 16 * pg' a + pl' a * 2 ^ cf_l (cf_u sz h (sz a) a) + (sz a - 1) < 192 := wa
      have wh' : 16 * pg' h + pl' h * 2 ^ cf_l (cf_u sz h (sz a) h) + (sz a - 1) < 192 := wh
      refine cf_baseW R'.1 ha la ?_
      refine cf_baseW R'.1 hh lh ?_
      refine ⟨sz a + 1, ?_⟩
      have hap : ∀ i l, i < sz a → l < sz a → 16 * pg' a + pl' a * 2 ^ cf_l (cf_u sz h (sz a) a) + i ≠ 16 * pg' h + pl' h * 2 ^ cf_l (cf_u sz h (sz a) h) + l := fun i l hi hl =>
        cf_apart R'.1 ha hh hah la lh (by show i < 2 ^ cf_l (cf_u sz h (sz a) a); rw [ea]; exact fit i hi) (by show l < 2 ^ cf_l (cf_u sz h (sz a) h); rw [eh]; exact fit l hl)
      have W := fun post H => cf_xcopy (post := post) (r := nI h) (b1 := 16 * pg' a + pl' a * 2 ^ cf_l (cf_u sz h (sz a) a)) (b2 := 16 * pg' h + pl' h * 2 ^ cf_l (cf_u sz h (sz a) h)) (x := sz a) (by omega) (by omega) hap H (T := T) (F := F') (L := L') (mem := mem') (kd := kd') (ct := ct') (ow := ow') (pg := pg') (pl := pl') (sz := cf_u sz h (sz a)) (op := op') (cn := cn') (scr := scr) (sz a) 0 (sz a + 1) (by omega) (by omega)
      rw [cf_wr_0] at W
      refine W _ ?_
      unfold wpY_copy
      refine cf_goodY ha a0 a16 ?_
      refine br_t rfl ⟨i0, ?_⟩
      rw [cf_rn (by omega)]
      refine hY _ ?_
      refine br_t (nI_pos' (by omega)) ⟨17, ?_⟩
      have W2 := fun post H => cf_ycopy (post := post) (T := T) (sz := cf_u sz h (sz a)) (wd := cf_wr wd (16 * h) 16 (fun _ => 0)) ha hh hah H 16 0 17 (by omega) (by omega)
      rw [cf_wr_0] at W2
      refine W2 _ ⟨rfl, cf_mk ⟨R'.1, ?_⟩⟩
      have M' := R'.2
      have Ma := M' a ha
      rw [ea] at Ma
      refine cf_M_set M' (h := h) (fun c hc e => ⟨rfl, fun j hj => ?_, fun j hj => cf_wd_other (by omega) e hj⟩) ⟨by rw [eh]; exact a16, fun j hj => ?_, fun j g1 g2 => ?_⟩
      · exact cf_other (lo := 0) R'.1 M' hh (by rw [eh]; exact a0) (Or.inr (by rw [eh]; have := cf_l_fit (sz a) a16; omega)) hc e hj
      · rw [eh] at hj
        rw [cf_wr_in hj, cf_wr_in (by omega), ea]
        exact Ma.2.1 j hj
      · rw [eh] at g1
        rw [cf_wr_in g2]
        exact Ma.2.2 j g1 g2
  · unfold wpX_copy
    refine cf_badX hg ?_
    refine br_t rfl ?_
    unfold wpY_copy
    refine cf_badY hg ?_
    exact br_f cf_10 ⟨rfl, cf_mk R⟩
end
section
/-! resize -/
theorem cf_dec_mod {n k : Nat} (hk : 0 < k) (hn : 0 < n) : (n % k = 0 → (n - 1) % k + 1 = k) ∧ (n % k ≠ 0 → (n - 1) % k + 1 = n % k) := by
  obtain ⟨m, rfl⟩ : ∃ m, n = m + 1 := ⟨n - 1, by omega⟩
  rw [Nat.add_sub_cancel]
  have g1 := cf_m1 (n := m) (k := k) hk
  have g2 := cf_m2 (n := m) (k := k) hk
  by_cases g : m % k + 1 = k
  · have := g1 g
    exact ⟨fun _ => g, fun z => absurd this z⟩
  · have := g2 g
    exact ⟨fun z => by omega, fun _ => this.symm⟩
section
variable {T F L : Nat} {mem : Nat → Int32} {kd ct ow pg pl sz op cn : Nat → Nat} {scr : Nat → Int32} {wd : Nat → Int32}
theorem cf_n58 {post : Int32 → Prop} (R : cf_R T F L mem kd ct ow pg pl sz op cn wd) {c t : Nat} (hc : c < 4) (H : post (nI (t + if cn c % cf_p c = 0 then 1 else 0))) : wX_neededAfter_58 post (nI c) (nI (cf_p c)) (nI t) (nI T) (nI F) (nI L) mem (cf_e kd) (cf_n ct) (cf_e ow) (cf_n pg) (cf_n pl) (cf_n sz) (cf_e op) (cf_n cn) scr := by
  have i4 : vp_in (nI c) 4 := vp_in_nI hc (by omega)
  have hT := cf_J_T R.1
  have hpp := cf_p_pos c hc
  obtain ⟨e1, e2⟩ := cf_J_E R.1 c hc
  refine ⟨i4, ?_⟩
  cases ho : op c with
  | zero =>
    rw [if_pos (e1 ho)] at H
    exact br_t (by rw [cf_re (by omega), ho]; rfl) (nm_r (nI_1 t) H)
  | succ p =>
    obtain ⟨f1, f2, f3, f4⟩ := e2 p ho
    have hD := cf_J_D R.1 p c (by omega) f2
    have eo : cf_e op (nI c).toNatClampNeg = nI p := cf_rs ho (by omega)
    rw [if_neg (by omega), Nat.add_zero] at H
    refine br_f (by rw [eo]; exact cf_nI_m1 (by omega)) ⟨i4, by rw [eo]; exact vp_in_nI (by omega) (by omega), br_f ?_ H⟩
    rw [eo, cf_rn (by omega)]
    exact fun z => by have := (nI_eq (by omega) (by omega)).mp z; omega
theorem cf_neededW {post : Int32 → Prop} (R : cf_R T F L mem kd ct ow pg pl sz op cn wd) {c d : Nat} (hc : c < 4) (hd : d < 4) (hcd : c ≠ d) (hpos : 0 < cn d) (H : post (nI (cf_nd (cf_u (cf_u cn d (cn d - 1)) c (cn c + 1))))) : wpX_neededAfter post (cf_X T F L mem kd ct ow pg pl sz op cn scr) (nI d) (nI c) := by
  have i4 : vp_in (nI d) 4 := vp_in_nI hd (by omega)
  have hT := cf_J_T R.1
  have hN := cf_J_N R.1
  have hpp := cf_p_pos d hd
  obtain ⟨e1, e2⟩ := cf_J_E R.1 d hd
  obtain ⟨m1, m2⟩ := cf_dec_mod hpp.1 hpos
  have n1 := cf_nd_dec cn d hd hpos
  have n2 := cf_nd_inc (cf_u cn d (cn d - 1)) c hc
  rw [cf_uo hcd] at n2
  rw [n2] at H
  have ex : nI T - nI F = nI (cf_nd cn) := by
    rw [pk_sub (by omega)]
    exact congrArg nI (by omega)
  unfold wpX_neededAfter
  refine cf_capW hd ?_
  refine cf_capW hc ?_
  refine nm_r ex ⟨i4, ?_⟩
  have K0 : (cn d - 1) % cf_p d = 0 → wX_neededAfter_55 post (nI c) (nI (cf_p c)) (nI (cf_nd cn)) (nI T) (nI F) (nI L) mem (cf_e kd) (cf_n ct) (cf_e ow) (cf_n pg) (cf_n pl) (cf_n sz) (cf_e op) (cf_n cn) scr := by
    intro z
    rw [if_pos z] at n1
    refine nm_r (e' := nI (cf_nd (cf_u cn d (cn d - 1)))) ?_ (cf_n58 R hc H)
    rw [← n1, pk_m1]
  have K1 : (cn d - 1) % cf_p d ≠ 0 → wX_neededAfter_58 post (nI c) (nI (cf_p c)) (nI (cf_nd cn)) (nI T) (nI F) (nI L) mem (cf_e kd) (cf_n ct) (cf_e ow) (cf_n pg) (cf_n pl) (cf_n sz) (cf_e op) (cf_n cn) scr := by
    intro z
    rw [if_neg z, Nat.add_zero] at n1
    rw [n1] at H
    exact cf_n58 R hc H
  cases ho : op d with
  | zero =>
    have q := m1 (e1 ho)
    refine br_t (by rw [cf_re (by omega), ho]; rfl) (pk_eq (cf_p d) 1 (fun z => K0 (by omega)) (fun z => K1 (by omega)) rfl rfl (by omega) (by omega))
  | succ p =>
    obtain ⟨f1, f2, f3, f4⟩ := e2 p ho
    have hD := cf_J_D R.1 p d (by omega) f2
    have q := m2 (by omega)
    have eo : cf_e op (nI d).toNatClampNeg = nI p := cf_rs ho (by omega)
    refine br_f (by rw [eo]; exact cf_nI_m1 (by omega)) ⟨i4, by rw [eo]; exact vp_in_nI (by omega) (by omega), pk_eq (ct p) 1 (fun z => K0 (by omega)) (fun z => K1 (by omega)) (by rw [eo, cf_rn (by omega)]) rfl (by omega) (by omega)⟩
theorem cf_yres {post : Int32 → SY → Prop} {h y : Nat} {r : Int32} (hh : h < 64) (hy : y ≤ 16) (H : post r (cf_Y T (cf_u sz h y) (cf_wr wd (16 * h + y) (16 - y) (fun _ => 0)))) :
    ∀ d i n, i + d = 16 → y ≤ i → d < n → wY_resize_72 post (nI h) (nI y) r (nI T) n (nI i) (cf_n sz) (cf_wr wd (16 * h + y) (i - y) (fun _ => 0)) := by
  intro d
  induction d with
  | zero =>
    intro i n hi hyi hd
    have : i = 16 := by omega
    subst this
    cases n with
    | zero => omega
    | succ n => exact br_t (nI_le (a := 16) (b := 16) (by omega) (by decide)) ⟨vp_in_nI hh (by omega), nm_r (cf_wn (by omega)) H⟩
  | succ d ih =>
    intro i n hi hyi hd
    cases n with
    | zero => omega
    | succ n =>
      refine br_f (nI_ge (b := 16) (by omega) (by decide)) ⟨?_, nm_r ?_ (nm_r (nI_1 i) (ih (i + 1) n (by omega) (by omega) (by omega)))⟩
      · rw [cf_i16]; exact vp_in_nI (by omega) (by omega)
      · rw [cf_i16, nI_clamp (by omega), show 16 * h + i = 16 * h + y + (i - y) by omega, show i + 1 - y = i - y + 1 by omega]
        exact cf_wr_s rfl
theorem cf_x133 {post : Int32 → SX → Prop} {b y : Nat} {r : Int32} {g : Nat → Int32} (hy : y ≤ 16) (hb : b + y ≤ 192) (hg : ∀ k, k < 16 → scr k = g k) (H : post r (cf_X T F L (cf_wr mem b y g) kd ct ow pg pl sz op cn scr)) :
    ∀ d i n, i + d = y → d < n → wX_resize_133 post (nI y) r (nI b) (nI T) (nI F) (nI L) n (nI i) (cf_wr mem b i g) (cf_e kd) (cf_n ct) (cf_e ow) (cf_n pg) (cf_n pl) (cf_n sz) (cf_e op) (cf_n cn) scr := by
  intro d
  induction d with
  | zero =>
    intro i n hi hd
    have : i = y := by omega
    subst this
    cases n with
    | zero => omega
    | succ n => exact br_t (nI_le (Nat.le_refl _) (by omega)) H
  | succ d ih =>
    intro i n hi hd
    cases n with
    | zero => omega
    | succ n =>
      refine br_f (nI_ge (by omega) (by omega)) ⟨vp_in_nI (by omega) (by omega), ?_, nm_r ?_ (nm_r (nI_1 i) (ih (i + 1) n (by omega) (by omega)))⟩
      · rw [nI_add]; exact vp_in_nI (by omega) (by omega)
      · rw [nI_add, nI_clamp (by omega), nI_clamp (by omega)]
        exact cf_wr_s (hg i (by omega))
theorem cf_x67 {post : Int32 → SX → Prop} (R : cf_R T F L mem kd ct ow pg pl sz op cn wd) {h : Nat} {y x5 : Int32} (hh : h < 64) (h0 : 0 < sz h)
    (K : ∀ n, wX_resize_67 post (nI h) y (nI (sz h)) x5 (nI T) (nI F) (nI L) (n + 1) (nI 16) mem (cf_e kd) (cf_n ct) (cf_e ow) (cf_n pg) (cf_n pl) (cf_n sz) (cf_e op) (cf_n cn) (cf_wr scr 0 16 (fun k => wd (16 * h + k)))) :
    ∀ d i n, i + d = 16 → d < n → wX_resize_67 post (nI h) y (nI (sz h)) x5 (nI T) (nI F) (nI L) n (nI i) mem (cf_e kd) (cf_n ct) (cf_e ow) (cf_n pg) (cf_n pl) (cf_n sz) (cf_e op) (cf_n cn) (cf_wr scr 0 i (fun k => wd (16 * h + k))) := by
  have h16 := cf_R_16 R h hh
  intro d
  induction d with
  | zero =>
    intro i n hi hd
    have : i = 16 := by omega
    subst this
    cases n with
    | zero => omega
    | succ n => exact K n
  | succ d ih =>
    intro i n hi hd
    cases n with
    | zero => omega
    | succ n =>
      have i1 : vp_in (nI i) 16 := vp_in_nI (by omega) (by omega)
      have Kn := ih (i + 1) n (by omega) (by omega)
      have hs : ∀ z, z = wd (16 * h + i) → upd (cf_wr scr 0 i (fun k => wd (16 * h + k))) (nI i).toNatClampNeg z = cf_wr scr 0 (i + 1) (fun k => wd (16 * h + k)) := by
        intro z ez
        rw [nI_clamp (by omega)]
        have := cf_wr_s (m := scr) (d := 0) (w := i) (g := fun k => wd (16 * h + k)) (x := z) ez
        rw [Nat.zero_add] at this
        exact this
      refine br_f (nI_ge (b := 16) (by omega) (by decide)) (pk_le (sz h) i (fun z => ⟨i1, nm_r (hs 0 ((R.2 h hh).2.2 i z (by omega)).symm) (nm_r (nI_1 i) Kn)⟩) (fun z => ?_) rfl rfl (by omega) (by omega))
      refine cf_wordW R.1 hh (show cf_l (sz h) ≠ 0 by rw [Ne, cf_l_0]; omega) (cf_fit h16 z) ?_
      exact ⟨i1, nm_r (hs _ ((R.2 h hh).2.1 i z)) (nm_r (nI_1 i) Kn)⟩
/-- the two removals and placings of a change of kind -/
theorem cf_moveClass (R : cf_R T F L mem kd ct ow pg pl sz op cn wd) {h y c d : Nat} (hh : h < 64) (hy1 : 1 ≤ y) (hy : y ≤ 16) (ec : cf_l y = c + 1) (ed : cf_l (sz h) = d + 1) (hcd : c ≠ d) (hroom : cf_nd (cf_u (cf_u cn d (cn d - 1)) c (cn c + 1)) ≤ T) :
    ∃ (F' L' : Nat) (mem' : Nat → Int32) (kd' ct' ow' pg' pl' op' cn' : Nat → Nat), cf_R T F' L' mem' kd' ct' ow' pg' pl' (cf_u sz h y) op' cn' (cf_wr wd (16 * h + y) (16 - y) (fun _ => 0)) ∧
      ∀ (post : Int32 → SX → Prop) (scr : Nat → Int32) (r : Int32) (n : Nat), (∀ k, k < 16 → scr k = wd (16 * h + k)) → r = nI (sz h) → post r (cf_X T F' L' mem' kd' ct' ow' pg' pl' (cf_u sz h y) op' cn' scr) →
        wX_resize_67 post (nI h) (nI y) r (nI c) (nI T) (nI F) (nI L) (n + 1) (nI 16) mem (cf_e kd) (cf_n ct) (cf_e ow) (cf_n pg) (cf_n pl) (cf_n sz) (cf_e op) (cf_n cn) scr := by
  have h16 := cf_R_16 R
  have hc : c < 4 := by have := cf_l_le y; omega
  have hd : d < 4 := by have := cf_l_le (sz h); omega
  obtain ⟨F1, L1, mem1, kd1, ct1, ow1, pg1, pl1, op1, cn1, J1, hm, W1⟩ := cf_removeW R.1 (h := h) (c := d) hh ed mem
  have hcn : ∀ e, e < 4 → cf_u (cf_u cn d (cn d - 1)) c (cn c + 1) e = cf_u cn1 c (cn1 c + 1) e := by
    have q : ∀ e, e < 4 → cn1 e = cf_u cn d (cn d - 1) e := by
      intro e he
      have g1 := cf_J_G R.1 e he
      have g2 := cf_J_G J1 e he
      have g3 := cf_q_upd (f := fun a => cf_l (sz a)) (k := h) (x := 0) (e + 1) 64 hh
      simp only [ed] at g3
      rw [if_neg (show ¬ 0 = e + 1 by omega)] at g3
      by_cases e1 : e = d
      · subst e1
        rw [if_pos rfl] at g3
        rw [cf_us]; omega
      · rw [if_neg (by omega)] at g3
        rw [cf_uo e1]; omega
    intro e he
    by_cases e1 : e = c
    · subst e1
      rw [cf_us, cf_us, q e he, cf_uo hcd]
    · rw [cf_uo e1, cf_uo e1, q e he]
  have hroom1 : op1 c = 0 → 0 < F1 := by
    intro z
    rw [cf_nd_congr hcn, cf_nd_inc cn1 c hc, if_pos ((cf_J_E J1 c hc).1 z)] at hroom
    have := cf_J_N J1
    omega
  obtain ⟨F2, L2, kd2, ct2, ow2, pg2, pl2, op2, cn2, J2, hpg, W2⟩ := cf_placeW J1 hh hc cf_us hroom1
  rw [cf_uu, ← ec, ← cf_l_u] at J2
  have eh : cf_u sz h y h = y := cf_us
  have ly : cf_l y ≠ 0 := by omega
  have lh : cf_l (cf_u sz h y h) ≠ 0 := by rw [eh]; exact ly
  have wh := cf_within J2 hh lh (k := y - 1) (by show y - 1 < 2 ^ cf_l (cf_u sz h y h); rw [eh]; exact cf_fit hy (by omega))
  have wh' : 16 * pg2 h + pl2 h * 2 ^ cf_l (cf_u sz h y h) + (y - 1) < 192 := wh
  refine ⟨F2, L2, cf_wr mem1 (16 * pg2 h + pl2 h * 2 ^ cf_l (cf_u sz h y h)) y (fun k => wd (16 * h + k)), kd2, ct2, ow2, pg2, pl2, op2, cn2, ⟨J2, ?_⟩, fun post scr r n hscr hr H => ?_⟩
  · refine cf_M_set R.2 (h := h) (fun a ha e => ⟨cf_uo e, fun j hj => ?_, fun j hj => cf_wr_out fun l hl => by omega⟩) ⟨by rw [eh]; exact hy, fun j hj => ?_, fun j g1 g2 => ?_⟩
    · have la : cf_l (sz a) ≠ 0 := by rw [Ne, cf_l_0]; omega
      have ea : cf_u sz h y a = sz a := cf_uo e
      rw [cf_wr_out, (hpg a e).1, (hpg a e).2]
      · exact hm a ha e la j (cf_fit (h16 a ha) hj)
      · intro l hl
        have hap := cf_apart J2 ha hh e (by show cf_l (cf_u sz h y a) ≠ 0; rw [ea]; exact la) lh (k := j) (l := l) (by show j < 2 ^ cf_l (cf_u sz h y a); rw [ea]; exact cf_fit (h16 a ha) hj) (by show l < 2 ^ cf_l (cf_u sz h y h); rw [eh]; exact cf_fit hy hl)
        rw [ea] at hap
        exact hap
    · rw [eh] at hj
      rw [cf_wr_in hj, cf_wr_out (fun l hl => by omega)]
    · rw [eh] at g1
      rw [show 16 * h + j = 16 * h + y + (j - y) by omega]
      exact cf_wr_in (by omega)
  · subst hr
    refine br_t (nI_le (a := 16) (b := 16) (by omega) (by decide)) (W1 _ sz scr ?_)
    refine ⟨vp_in_nI hh (by omega), nm_r (cf_wn (by omega)) (W2 _ mem1 (cf_u sz h y) scr ?_)⟩
    refine cf_baseW J2 hh lh ?_
    refine ⟨y + 1, ?_⟩
    have W := cf_x133 (b := 16 * pg2 h + pl2 h * 2 ^ cf_l (cf_u sz h y h)) hy (by omega) hscr H y 0 (y + 1) (by omega) (by omega)
    rw [cf_wr_0] at W
    exact W
end
theorem i_vc_resize {k : Nat} {u : SX} {v : SY} (I : i_Rel k u v) (hk : k + 4 ≤ 2049) (v1 : Int32) (v2 : Int32) : wpX_resize (fun r u' => wpY_resize (fun r' v' => r' = r ∧ i_Rel (k + 4) u' v') v v1 v2) u v1 v2 := by
  refine cf_el (P := fun u v => wpX_resize (fun r u' => wpY_resize (fun r' v' => r' = r ∧ i_Rel (k + 4) u' v') v v1 v2) u v1 v2) ?_ I
  intro T F L mem kd ct ow pg pl sz op cn scr wd R
  by_cases hg : ∃ h, h < 64 ∧ v1 = nI h ∧ 0 < sz h
  · obtain ⟨h, hh, rfl, h0⟩ := hg
    have h16 := cf_R_16 R h hh
    have hT := cf_J_T R.1
    have hN := cf_J_N R.1
    have i0 : vp_in (nI h) 64 := vp_in_nI hh (by omega)
    unfold wpX_resize
    refine cf_goodX hh h0 h16 ?_
    refine br_f cf_10 ?_
    refine cf_sizeW ?_ ?_
    · intro hs
      refine br_t rfl ?_
      unfold wpY_resize
      refine cf_goodY hh h0 h16 ?_
      refine br_t rfl (br_c (fun _ => ⟨rfl, cf_mk R⟩) (fun g1 => br_c (fun g2 => absurd ?_ hs) (fun _ => ⟨rfl, cf_mk R⟩)))
      obtain ⟨s, hsl, rfl⟩ := nI_of2 (M := 16) (n := 16) (by decide) (fun z => g1 (Int32.lt_trans z (by decide))) g2
      exact ⟨s, Classical.byContradiction fun z => g1 (nI_lt (b := 1) (by omega) (by decide)), hsl, rfl⟩
    · intro y hy1 hy e
      subst e
      have l0 : cf_l (sz h) ≠ 0 := by rw [Ne, cf_l_0]; omega
      have ly : cf_l y ≠ 0 := by rw [Ne, cf_l_0]; omega
      have l4 := cf_l_le (sz h)
      have ly4 := cf_l_le y
      obtain ⟨d, ed⟩ : ∃ d, cf_l (sz h) = d + 1 := ⟨cf_l (sz h) - 1, by omega⟩
      obtain ⟨c, ec⟩ : ∃ c, cf_l y = c + 1 := ⟨cf_l y - 1, by omega⟩
      have hc : c < 4 := by omega
      have hd : d < 4 := by omega
      have hpos : 0 < cn d := cf_cn_pos R.1 hh hd ed
      refine br_f cf_10 ⟨i0, nm_r (cf_rn (by omega)) ?_⟩
      refine cf_kindX h0 h16 ?_
      rw [ed, Nat.add_sub_cancel]
      refine cf_kindX hy1 hy ?_
      rw [ec, Nat.add_sub_cancel]
      have hY : ∀ (post : Int32 → SY → Prop) (g : Nat → Nat), g = (if c = d then cn else cf_u (cf_u cn d (cn d - 1)) c (cn c + 1)) → cf_nd g < 2 ^ 31 → (cf_nd g ≤ T → post (nI (sz h)) (cf_Y T (cf_u sz h y) (cf_wr wd (16 * h + y) (16 - y) (fun _ => 0)))) → (¬ cf_nd g ≤ T → post (-3) (cf_Y T sz wd)) → wpY_resize post (cf_Y T sz wd) (nI h) (nI y) := by
        intro post g eg hgl K1 K2
        unfold wpY_resize
        refine cf_goodY hh h0 h16 ?_
        refine br_t rfl (br_f (nI_nlt (b := 1) hy1 (by omega)) (br_t (nI_le (b := 16) hy (by decide)) ?_))
        refine cf_kindY hy1 hy ?_
        refine ⟨i0, ?_⟩
        rw [cf_rn (by omega)]
        refine cf_kindY h0 h16 ?_
        rw [ec, ed, Nat.add_sub_cancel, Nat.add_sub_cancel]
        refine cf_needs2 R hc hd hpos eg ?_
        refine pk_le (cf_nd g) T (fun z => ⟨i0, nm_e ⟨17, ?_⟩⟩) (fun z => K2 (by omega)) rfl rfl hgl (by omega)
        have W := cf_yres (r := nI (sz h)) hh hy (K1 z) (16 - y) y 17 (by omega) (by omega) (by omega)
        rw [Nat.sub_self, cf_wr_0] at W
        exact W
      by_cases hcd : c = d
      · refine br_t (by rw [hcd]) ⟨i0, nm_r (cf_wn (by omega)) ?_⟩
        have eh : cf_u sz h y h = y := cf_us
        have elv : (fun a => cf_l (cf_u sz h y a)) = fun a => cf_l (sz a) := by
          rw [cf_l_u]
          exact cf_uself (by show cf_l (sz h) = cf_l y; omega)
        have J' := R.1
        rw [← elv] at J'
        have ely : cf_l (cf_u sz h y h) = cf_l (sz h) := by rw [eh]; omega
        refine cf_xwipe J' hh (by show cf_l (cf_u sz h y h) ≠ 0; rw [ely]; exact l0) (by omega) (by show y ≤ 2 ^ cf_l (cf_u sz h y h); rw [eh]; exact cf_l_fit y hy) ?_
        have hb : cf_nd cn < 2 ^ 31 := by omega
        refine hY _ cn (by rw [if_pos hcd]) hb (fun _ => ⟨rfl, cf_mk ⟨J', ?_⟩⟩) (fun z => absurd (by omega) z)
        have hfit : y ≤ 2 ^ cf_l (sz h) := by rw [← ely, eh]; exact cf_l_fit y hy
        rw [ely]
        refine cf_M_set R.2 (h := h) (fun a ha e => ⟨cf_uo e, fun j hj => ?_, fun j hj => cf_wr_out fun l hl => by omega⟩) ⟨by rw [eh]; exact hy, fun j hj => ?_, fun j g1 g2 => ?_⟩
        · exact cf_other R.1 R.2 hh h0 (by omega) ha e hj
        · rw [eh] at hj
          rw [eh, show cf_l y = cf_l (sz h) by omega, cf_wr_out (d := 16 * h + y) (fun l hl => by omega)]
          by_cases ej : j < sz h
          · rw [cf_wr_out (fun l hl => by omega)]
            exact (R.2 h hh).2.1 j ej
          · rw [show 16 * pg h + pl h * 2 ^ cf_l (sz h) + j = 16 * pg h + pl h * 2 ^ cf_l (sz h) + sz h + (j - sz h) by omega, cf_wr_in (by omega)]
            exact ((R.2 h hh).2.2 j (by omega) (by omega)).symm
        · rw [eh] at g1
          rw [show 16 * h + j = 16 * h + y + (j - y) by omega]
          exact cf_wr_in (by omega)
      · have n1 := cf_nd_dec cn d hd hpos
        have n2 := cf_nd_inc (cf_u cn d (cn d - 1)) c hc
        rw [cf_uo hcd] at n2
        have hgl : cf_nd (cf_u (cf_u cn d (cn d - 1)) c (cn c + 1)) < 2 ^ 31 := by
          rw [n2]
          split <;> omega
        refine br_f (fun z => hcd ((nI_eq (by omega) (by omega)).mp z).symm) ?_
        refine cf_neededW R hc hd hcd hpos ?_
        refine pk_le (cf_nd (cf_u (cf_u cn d (cn d - 1)) c (cn c + 1))) T (fun z => ?_) (fun z => ?_) rfl rfl hgl (by omega)
        · obtain ⟨F', L', mem', kd', ct', ow', pg', pl', op', cn', R', W⟩ := cf_moveClass R hh hy1 hy ec ed hcd z
          refine ⟨17, ?_⟩
          have W2 := fun post K => cf_x67 (post := post) (scr := scr) (y := nI y) (x5 := nI c) R hh h0 K 16 0 17 (by omega) (by omega)
          rw [cf_wr_0] at W2
          refine W2 _ (fun n => W _ _ _ n (fun j hj => ?_) rfl ?_)
          · have := cf_wr_in (m := scr) (d := 0) (w := 16) (k := j) (g := fun k => wd (16 * h + k)) hj
            rw [Nat.zero_add] at this
            exact this
          · exact hY _ _ (by rw [if_neg hcd]) hgl (fun _ => ⟨rfl, cf_mk R'⟩) (fun q => absurd z q)
        · exact hY _ _ (by rw [if_neg hcd]) hgl (fun q => by omega) (fun _ => ⟨rfl, cf_mk R⟩)
  · unfold wpX_resize
    refine cf_badX hg ?_
    refine br_t rfl ?_
    unfold wpY_resize
    refine cf_badY hg ?_
    exact br_f cf_10 ⟨rfl, cf_mk R⟩
end
