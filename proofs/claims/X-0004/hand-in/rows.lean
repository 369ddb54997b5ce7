section
theorem pk_us {f : Nat → Int32} {k : Nat} {x : Int32} : upd f k x k = x := if_pos rfl
theorem pk_un {f : Nat → Int32} {k j : Nat} {x : Int32} (h : j ≠ k) : upd f k x j = f j := if_neg h
theorem pk_uLs {f : Nat → Int64} {k : Nat} {x : Int64} : vp_updL f k x k = x := if_pos rfl
theorem pk_uLn {f : Nat → Int64} {k j : Nat} {x : Int64} (h : j ≠ k) : vp_updL f k x j = f j := if_neg h
theorem pk_sub {a b : Nat} (h : b ≤ a) : nI a - nI b = nI (a - b) := by
  obtain ⟨c, rfl⟩ : ∃ c, a = c + b := ⟨a - b, by omega⟩
  rw [← nI_add, Int32.add_sub_cancel, Nat.add_sub_cancel]
theorem pk_m1 (n : Nat) : nI (n + 1) + (-1) = nI n := by
  rw [← nI_1, Int32.add_assoc, show (1 : Int32) + (-1) = 0 from rfl, Int32.add_zero]
theorem pk_mul (a b : Nat) : nI a * nI b = nI (a * b) := (Int32.ofNat_mul a b).symm
theorem pk_sub_toInt {a b : Nat} (ha : a < 2 ^ 30) (hb : b < 2 ^ 30) : (nI a - nI b).toInt = (a : Int) - b := by
  rw [Int32.toInt_sub, nI_toInt (by omega), nI_toInt (by omega)]
  exact Int.bmod_eq_of_le (by omega) (by omega)
theorem pk_ix (x : Int32) {n : Nat} (hn : n < 2 ^ 31) : x < 0 ∨ nI n ≤ x ∨ ∃ j : Nat, j < n ∧ x = nI j := by
  by_cases h : x < 0
  · exact Or.inl h
  · obtain ⟨j, hj, rfl⟩ := nI_of h
    by_cases h2 : j < n
    · exact Or.inr (Or.inr ⟨j, h2, rfl⟩)
    · exact Or.inr (Or.inl (nI_le (by omega) hj))
theorem pk_le {x y : Int32} {A B : Prop} (a b : Nat) (f : a ≤ b → A) (g : b < a → B) (hx : x = nI a := by rfl) (hy : y = nI b := by rfl) (ha : a < 2 ^ 31 := by omega) (hb : b < 2 ^ 31 := by omega) : (x ≤ y → A) ∧ (¬ x ≤ y → B) := by
  subst hx hy
  rw [nI_leI ha hb]
  exact ⟨f, fun z => g (by omega)⟩
theorem pk_lt {x y : Int32} {A B : Prop} (a b : Nat) (f : a < b → A) (g : b ≤ a → B) (hx : x = nI a := by rfl) (hy : y = nI b := by rfl) (ha : a < 2 ^ 31 := by omega) (hb : b < 2 ^ 31 := by omega) : (x < y → A) ∧ (¬ x < y → B) := by
  subst hx hy
  rw [nI_ltI ha hb]
  exact ⟨f, fun z => g (by omega)⟩
theorem pk_eq {x y : Int32} {A B : Prop} (a b : Nat) (f : a = b → A) (g : a ≠ b → B) (hx : x = nI a := by rfl) (hy : y = nI b := by rfl) (ha : a < 2 ^ 31 := by omega) (hb : b < 2 ^ 31 := by omega) : (x = y → A) ∧ (¬ x = y → B) := by
  subst hx hy
  rw [nI_eq ha hb]
  exact ⟨f, g⟩
theorem pk_in {x : Int32} (n N : Nat) (h : n < N) (hx : x = nI n := by rfl) (hN : N < 2 ^ 31 := by omega) : vp_in x N := by
  subst hx
  exact vp_in_nI h hN
theorem pk_cl {x : Int32} (n : Nat) (hx : x = nI n := by rfl) (h : n < 2 ^ 31 := by omega) : x.toNatClampNeg = n := by
  subst hx
  exact nI_clamp h
theorem pk_tn {n : Nat} (h : n < 2 ^ 32) : (nI n).toBitVec.toNat = n := Nat.mod_eq_of_lt h
theorem pk_and (x : Int32) {m : Int32} (k : Nat) (hm : m.toBitVec.toNat = 2 ^ k - 1) : x &&& m = nI (x.toBitVec.toNat % 2 ^ k) := by
  apply Int32.toBitVec_inj.mp
  apply BitVec.eq_of_toNat_eq
  rw [Int32.toBitVec_and, BitVec.toNat_and, hm, Nat.and_two_pow_sub_one_eq_mod]
  show _ = (BitVec.ofNat 32 _).toNat
  rw [BitVec.toNat_ofNat]
  exact (Nat.mod_eq_of_lt (Nat.lt_of_le_of_lt (Nat.mod_le _ _) x.toBitVec.isLt)).symm
theorem pk_andN {n : Nat} (h : n < 2 ^ 32) {m : Int32} (k : Nat) (hm : m.toBitVec.toNat = 2 ^ k - 1) : nI n &&& m = nI (n % 2 ^ k) := by
  rw [pk_and _ k hm, pk_tn h]
theorem pk_shr (a s : Int32) (k : Nat) (hs : (s.toBitVec.smod 32).toNat = k) : (a >>> s).toInt = a.toInt >>> k := by
  show (a.toBitVec.sshiftRight (s.toBitVec.smod 32).toNat).toInt = _
  rw [hs, BitVec.toInt_sshiftRight]
  rfl
theorem pk_shrN {n : Nat} (h : n < 2 ^ 31) (s : Int32) (k : Nat) (hs : (s.toBitVec.smod 32).toNat = k) : nI n >>> s = nI (n / 2 ^ k) := by
  apply Int32.toInt_inj.mp
  have h2 : n / 2 ^ k ≤ n := Nat.div_le_self _ _
  rw [pk_shr _ _ k hs, nI_toInt h, nI_toInt (by omega), Int.shiftRight_eq_div_pow]
  rfl
theorem pk_lT {n : Nat} (h : n < 2 ^ 63) : (lN n).toInt = (n : Int) := lg_ofNat_toInt h
theorem pk_lEQ {a b : Nat} (ha : a < 2 ^ 63) (hb : b < 2 ^ 63) : lN a = lN b ↔ a = b := by
  rw [← Int64.toInt_inj, pk_lT ha, pk_lT hb]; omega
theorem pk_least (P : Nat → Prop) (h : ∃ k, P k) : ∃ k, P k ∧ ∀ j, j < k → ¬ P j := by
  obtain ⟨k, hk⟩ := h
  induction k using Nat.strongRecOn with
  | ind k ih =>
    by_cases e : ∃ j, j < k ∧ P j
    · obtain ⟨j, hj, pj⟩ := e
      exact ih j hj pj
    · exact ⟨k, hk, fun j hj pj => e ⟨j, hj, pj⟩⟩
theorem sb_cl0 : (0 : Int32).toNatClampNeg = 0 := by decide
theorem sb_m1 {p : Nat} (h : 0 < p) : nI p + (-1) = nI (p - 1) := by
  obtain ⟨q, rfl⟩ : ∃ q, p = q + 1 := ⟨p - 1, by omega⟩
  exact pk_m1 q
theorem nx_and (a b : Nat) : nI a &&& nI b = nI (a &&& b) := by
  apply Int32.toBitVec_inj.1
  show BitVec.ofNat 32 a &&& BitVec.ofNat 32 b = BitVec.ofNat 32 (a &&& b)
  apply BitVec.eq_of_getLsbD_eq
  intro i hi
  simp [hi]
theorem nx_xor (a b : Nat) : nI a ^^^ nI b = nI (a ^^^ b) := by
  apply Int32.toBitVec_inj.1
  show BitVec.ofNat 32 a ^^^ BitVec.ofNat 32 b = BitVec.ofNat 32 (a ^^^ b)
  apply BitVec.eq_of_getLsbD_eq
  intro i hi
  simp [hi]
theorem wb_of32 (x : Int32) : ∃ n, n < 2 ^ 32 ∧ x = nI n := ⟨x.toBitVec.toNat, x.toBitVec.isLt, Int32.toBitVec_inj.mp (by show _ = BitVec.ofNat 32 _; simp)⟩
theorem wb_pw {a b : Nat} (h : a ≤ b) : 2 ^ b = 2 ^ a * 2 ^ (b - a) := by rw [← Nat.pow_add]; congr 1; omega
theorem wb_lt2 {a b : Nat} (h : a < b) : 2 ^ a < 2 ^ b := Nat.pow_lt_pow_right (by decide) h
end
section
/-! sums, counts, single writes, powers of two -/
def sm_s (f : Nat → Nat) : Nat → Nat
  | 0 => 0
  | n + 1 => sm_s f n + f n
theorem sm_0 (f : Nat → Nat) : sm_s f 0 = 0 := rfl
theorem sm_n (f : Nat → Nat) (n : Nat) : sm_s f (n + 1) = sm_s f n + f n := rfl
theorem sm_congr {f g : Nat → Nat} {n : Nat} (h : ∀ i, i < n → f i = g i) : sm_s f n = sm_s g n := by
  induction n with
  | zero => rfl
  | succ n ih => rw [sm_n, sm_n, ih (fun i hi => h i (by omega)), h n (by omega)]
theorem sm_one {f g : Nat → Nat} {i n : Nat} (hi : i < n) (h : ∀ j, j < n → j ≠ i → f j = g j) : sm_s f n + g i = sm_s g n + f i := by
  induction n with
  | zero => omega
  | succ n ih =>
    rw [sm_n, sm_n]
    by_cases e : i = n
    · subst e
      have := sm_congr (n := i) (f := f) (g := g) (fun j hj => h j (by omega) (by omega))
      omega
    · have h1 := ih (by omega) (fun j hj hne => h j (by omega) hne)
      have h2 := h n (by omega) (fun z => e z.symm)
      omega
theorem sm_add (f g : Nat → Nat) (n : Nat) : sm_s (fun i => f i + g i) n = sm_s f n + sm_s g n := by
  induction n with
  | zero => rfl
  | succ n ih => rw [sm_n, sm_n, sm_n, ih]; omega
theorem sm_ge {f : Nat → Nat} {i n : Nat} (h : i < n) : f i ≤ sm_s f n := by
  induction n with
  | zero => omega
  | succ n ih =>
    rw [sm_n]
    by_cases e : i = n
    · subst e; omega
    · have := ih (by omega); omega
theorem sm_ge2 {f : Nat → Nat} {i j n : Nat} (hi : i < n) (hj : j < n) (hn : i ≠ j) : f i + f j ≤ sm_s f n := by
  induction n with
  | zero => omega
  | succ n ih =>
    rw [sm_n]
    by_cases e : i = n
    · subst e
      have := sm_ge (f := f) (i := j) (n := i) (by omega); omega
    · by_cases e2 : j = n
      · subst e2
        have := sm_ge (f := f) (i := i) (n := j) (by omega); omega
      · have := ih (by omega) (by omega); omega
theorem sm_mono {f g : Nat → Nat} {n : Nat} (h : ∀ i, i < n → f i ≤ g i) : sm_s f n ≤ sm_s g n := by
  induction n with
  | zero => exact Nat.le_refl _
  | succ n ih =>
    rw [sm_n, sm_n]
    have := ih (fun i hi => h i (by omega))
    have := h n (by omega)
    omega
theorem sm_z {f : Nat → Nat} {n : Nat} (h : ∀ i, i < n → f i = 0) : sm_s f n = 0 := by
  induction n with
  | zero => rfl
  | succ n ih => rw [sm_n, ih (fun i hi => h i (by omega)), h n (by omega)]
theorem sm_pos {f : Nat → Nat} {n : Nat} (h : sm_s f n ≠ 0) : ∃ i, i < n ∧ f i ≠ 0 := by
  induction n with
  | zero => exact absurd rfl h
  | succ n ih =>
    rw [sm_n] at h
    by_cases e : f n = 0
    · obtain ⟨i, hi, hf⟩ := ih (by omega)
      exact ⟨i, by omega, hf⟩
    · exact ⟨n, by omega, e⟩
theorem sm_bd {f : Nat → Nat} {n b : Nat} (h : ∀ i, i < n → f i ≤ b) : sm_s f n ≤ n * b := by
  induction n with
  | zero => exact Nat.zero_le _
  | succ n ih =>
    rw [sm_n, Nat.succ_mul]
    have := ih (fun i hi => h i (by omega))
    have := h n (by omega)
    omega
/-- how many keys below n are bound -/
def cn_c (f : Nat → Nat) (n : Nat) : Nat := sm_s (fun k => if f k = 0 then 0 else 1) n
theorem cn_0 (f : Nat → Nat) : cn_c f 0 = 0 := rfl
theorem cn_n (f : Nat → Nat) (n : Nat) : cn_c f (n + 1) = cn_c f n + (if f n = 0 then 0 else 1) := rfl
theorem cn_le {f : Nat → Nat} {a b : Nat} (h : a ≤ b) : cn_c f a ≤ cn_c f b := by
  induction b with
  | zero => rw [show a = 0 by omega]; exact Nat.le_refl _
  | succ b ih =>
    by_cases e : a = b + 1
    · rw [e]; exact Nat.le_refl _
    · have := ih (by omega)
      rw [cn_n]; omega
theorem cn_lt {f : Nat → Nat} {k b : Nat} (h : k < b) (hk : f k ≠ 0) : cn_c f k < cn_c f b := by
  have h1 : cn_c f (k + 1) ≤ cn_c f b := cn_le h
  rw [cn_n, if_neg hk] at h1
  omega
theorem cn_top {f : Nat → Nat} {a b : Nat} (hab : a ≤ b) (h : ∀ k, a ≤ k → f k = 0) : cn_c f b = cn_c f a := by
  induction b with
  | zero => rw [show a = 0 by omega]
  | succ b ih =>
    by_cases e : a = b + 1
    · rw [e]
    · rw [cn_n, if_pos (h b (by omega)), ih (by omega), Nat.add_zero]
theorem cn_z {f : Nat → Nat} {b : Nat} (h : ∀ k, k < b → f k = 0) : cn_c f b = 0 :=
  sm_z (fun i hi => if_pos (h i hi))
theorem cn_add {f g h : Nat → Nat} (n : Nat) (e : ∀ k, h k = f k + g k) (d : ∀ k, f k = 0 ∨ g k = 0) : cn_c h n = cn_c f n + cn_c g n := by
  induction n with
  | zero => rfl
  | succ n ih =>
    rw [cn_n, cn_n, cn_n, ih, e n]
    rcases d n with z | z
    · rw [z, Nat.zero_add, if_pos rfl]; omega
    · rw [z, Nat.add_zero, if_pos rfl]; omega
theorem cn_bd (f : Nat → Nat) (n : Nat) : cn_c f n ≤ n := by
  induction n with
  | zero => exact Nat.le_refl _
  | succ n ih => rw [cn_n]; split <;> omega
theorem cn_congr {f g : Nat → Nat} {n : Nat} (h : ∀ k, k < n → f k = g k) : cn_c f n = cn_c g n :=
  sm_congr (fun i hi => by rw [h i hi])
/-- one write -/
def un_u (f : Nat → Nat) (k x : Nat) : Nat → Nat := fun j => if j = k then x else f j
theorem un_s {f : Nat → Nat} {k x : Nat} : un_u f k x k = x := if_pos rfl
theorem un_n {f : Nat → Nat} {k x j : Nat} (h : j ≠ k) : un_u f k x j = f j := if_neg h
theorem un_I (f : Nat → Nat) (k x : Nat) : upd (fun i => nI (f i)) k (nI x) = fun i => nI (un_u f k x i) := by
  funext i
  unfold upd un_u
  split <;> rfl
theorem un_L (f : Nat → Nat) (k x : Nat) : vp_updL (fun i => lN (f i)) k (lN x) = fun i => lN (un_u f k x i) := by
  funext i
  unfold vp_updL un_u
  split <;> rfl
def hp_m : Nat → Nat
  | 0 => 0
  | h + 1 => 2 ^ h
theorem un_M (f : Nat → Nat) (k x : Nat) : upd (fun i => nI (hp_m (f i))) k (nI (hp_m x)) = fun i => nI (hp_m (un_u f k x i)) := by
  funext i
  unfold upd un_u
  split <;> rfl
theorem pw_s (k h : Nat) : k / 2 ^ (h + 1) = k / 2 ^ h / 2 := by
  rw [Nat.pow_succ, Nat.div_div_eq_div_mul]
theorem pw_le {a b k k' : Nat} (h : a ≤ b) (e : k / 2 ^ a = k' / 2 ^ a) : k / 2 ^ b = k' / 2 ^ b := by
  obtain ⟨c, rfl⟩ := Nat.exists_eq_add_of_le h
  rw [Nat.pow_add, ← Nat.div_div_eq_div_mul, e, Nat.div_div_eq_div_mul]
theorem pw_ex {k h : Nat} (e : k % 2 ^ (h + 1) = 0) : k / 2 ^ h % 2 = 0 ∧ k = k / 2 ^ h * 2 ^ h := by
  have h1 := Nat.div_add_mod k (2 ^ (h + 1))
  rw [e, Nat.add_zero, Nat.pow_succ, Nat.mul_assoc] at h1
  have h2 : k / 2 ^ h = 2 * (k / (2 ^ h * 2)) := by
    conv => lhs; rw [← h1]
    exact Nat.mul_div_cancel_left _ (Nat.two_pow_pos h)
  refine ⟨by omega, ?_⟩
  rw [h2, Nat.mul_comm]
  exact h1.symm
theorem pw_p (h : Nat) : 0 < 2 ^ h := Nat.two_pow_pos h
theorem pw_rg {k q h : Nat} (e : k / 2 ^ h = q) : q * 2 ^ h ≤ k ∧ k < q * 2 ^ h + 2 ^ h := by
  have h1 := Nat.div_add_mod k (2 ^ h)
  have h2 := Nat.mod_lt k (pw_p h)
  rw [e, Nat.mul_comm] at h1
  omega
theorem pw_16 {h : Nat} (a : h ≤ 16) : 2 ^ h ≤ 65536 := by
  have := Nat.pow_le_pow_right (n := 2) (by decide) a
  exact this
theorem pw_15 {h : Nat} (a : h ≤ 15) : 2 ^ h ≤ 32768 := by
  have := Nat.pow_le_pow_right (n := 2) (by decide) a
  exact this
theorem hp_mb {l : Nat} (h : l ≤ 16) : hp_m l ≤ 32768 := by
  cases l with
  | zero => exact Nat.zero_le _
  | succ l => exact pw_15 (by omega)
theorem hp_m0 {l : Nat} : hp_m l = 0 ↔ l = 0 := by
  cases l with
  | zero => exact ⟨fun _ => rfl, fun _ => rfl⟩
  | succ l =>
    have := pw_p l
    show 2 ^ l = 0 ↔ _
    omega
theorem hp_mle {a b : Nat} : hp_m a ≤ hp_m b ↔ a ≤ b := by
  cases a with
  | zero => exact ⟨fun _ => Nat.zero_le _, fun _ => Nat.zero_le _⟩
  | succ a =>
    cases b with
    | zero =>
      have := pw_p a
      show 2 ^ a ≤ 0 ↔ _
      omega
    | succ b =>
      show 2 ^ a ≤ 2 ^ b ↔ _
      rw [Nat.pow_le_pow_iff_right (by decide)]
      omega
end
section
/-! the pure heap: fields 0 level, 1 key, 2 value, 3 count, 4 left, 5 right, 6 refs, 7 epoch, 8 free list -/
def hp_Z (H : Nat → Nat → Nat) : Prop := H 0 0 = 0 ∧ H 1 0 = 0 ∧ H 3 0 = 0 ∧ H 4 0 = 0 ∧ H 5 0 = 0
def hp_Q (H : Nat → Nat → Nat) (c : Nat) : Prop :=
  H 0 c ≤ 16 ∧ H 1 c < 65536 ∧ H 1 c % 2 ^ (H 0 c) = 0 ∧ H 2 c < 2147483648 ∧ (H 0 c = 0 → H 4 c = 0 ∧ H 5 c = 0) ∧
  (∀ h, H 0 c = h + 1 → H 4 c ≠ 0 ∧ H 5 c ≠ 0 ∧ H 0 (H 4 c) ≤ h ∧ H 0 (H 5 c) ≤ h ∧
    H 1 (H 4 c) / 2 ^ h = H 1 c / 2 ^ h ∧ H 1 (H 5 c) / 2 ^ h = H 1 c / 2 ^ h + 1)
def hp_N (H : Nat → Nat → Nat) (c : Nat) : Prop := H 3 c = if H 0 c = 0 then 1 else H 3 (H 4 c) + H 3 (H 5 c)
def hp_T (H : Nat → Nat → Nat) (S : Nat → Prop) : Prop :=
  hp_Z H ∧ S 0 ∧ ∀ c, S c → c < 256 ∧ S (H 4 c) ∧ S (H 5 c) ∧ (c ≠ 0 → hp_Q H c)
/-- the child toward k -/
def hp_c (H : Nat → Nat → Nat) (c k : Nat) : Nat := if H 0 c = 0 then H 4 c else if k / 2 ^ (H 0 c - 1) % 2 = 1 then H 5 c else H 4 c
/-- the leaf that k leads to -/
def hp_w (H : Nat → Nat → Nat) : Nat → Nat → Nat → Nat
  | 0, c, _ => c
  | n + 1, c, k => if H 0 c = 0 then c else hp_w H n (hp_c H c k) k
def hp_d (H : Nat → Nat → Nat) (x : Nat) : Nat × Nat := (H 1 x, if x = 0 then 0 else H 2 x + 1)
/-- the map of the trie at c: value + 1, or 0 -/
def mp_m (H : Nat → Nat → Nat) (c k : Nat) : Nat := if (hp_d H (hp_w H 16 c k)).1 = k then (hp_d H (hp_w H 16 c k)).2 else 0
/-- n steps toward k -/
def hp_s (H : Nat → Nat → Nat) : Nat → Nat → Nat → Nat
  | 0, c, _ => c
  | n + 1, c, k => hp_s H n (hp_c H c k) k
theorem hp_w0 {H : Nat → Nat → Nat} {n c k : Nat} (h : H 0 c = 0) : hp_w H n c k = c := by
  cases n with
  | zero => rfl
  | succ n => exact if_pos h
theorem hp_w1 {H : Nat → Nat → Nat} {n c k : Nat} (h : H 0 c ≠ 0) : hp_w H (n + 1) c k = hp_w H n (hp_c H c k) k := if_neg h
theorem hp_c0 {H : Nat → Nat → Nat} {c k : Nat} (h : H 0 c = 0) : hp_c H c k = H 4 c := if_pos h
theorem hp_c1 {H : Nat → Nat → Nat} {c k h : Nat} (e : H 0 c = h + 1) : hp_c H c k = if k / 2 ^ h % 2 = 1 then H 5 c else H 4 c := by
  unfold hp_c
  rw [if_neg (by omega), e]
  rfl
section
variable {H : Nat → Nat → Nat} {S : Nat → Prop}
theorem hp_qs (T : hp_T H S) {c h : Nat} (hc : S c) (e : H 0 c = h + 1) : c ≠ 0 ∧ hp_Q H c := by
  have h0 : c ≠ 0 := by
    intro z
    rw [z, T.1.1] at e
    omega
  exact ⟨h0, (T.2.2 c hc).2.2.2 h0⟩
theorem hp_cS (T : hp_T H S) {c k : Nat} (hc : S c) : S (hp_c H c k) := by
  have h1 := T.2.2 c hc
  unfold hp_c
  split
  · exact h1.2.1
  · split
    · exact h1.2.2.1
    · exact h1.2.1
theorem hp_cl (T : hp_T H S) {c k h : Nat} (hc : S c) (e : H 0 c = h + 1) : H 0 (hp_c H c k) ≤ h ∧ hp_c H c k ≠ 0 := by
  obtain ⟨h0, hq⟩ := hp_qs T hc e
  have h1 := hq.2.2.2.2.2 h e
  rw [hp_c1 e]
  split
  · exact ⟨h1.2.2.2.1, h1.2.1⟩
  · exact ⟨h1.2.2.1, h1.1⟩
theorem hp_lf (T : hp_T H S) {c k : Nat} (hc : S c) (e : H 0 c = 0) : hp_c H c k = 0 ∧ H 4 c = 0 ∧ H 5 c = 0 := by
  rw [hp_c0 e]
  by_cases z : c = 0
  · rw [z]; exact ⟨T.1.2.2.2.1, T.1.2.2.2.1, T.1.2.2.2.2⟩
  · have h1 := ((T.2.2 c hc).2.2.2 z).2.2.2.2.1 e
    exact ⟨h1.1, h1⟩
theorem hp_l16 (T : hp_T H S) {c : Nat} (hc : S c) : H 0 c ≤ 16 := by
  by_cases z : c = 0
  · rw [z, T.1.1]; omega
  · exact ((T.2.2 c hc).2.2.2 z).1
theorem hp_k16 (T : hp_T H S) {c : Nat} (hc : S c) : H 1 c < 65536 := by
  by_cases z : c = 0
  · rw [z, T.1.2.1]; omega
  · exact ((T.2.2 c hc).2.2.2 z).2.1
theorem hp_wf (T : hp_T H S) {k : Nat} : ∀ (n c : Nat), S c → H 0 c ≤ n → hp_w H (n + 1) c k = hp_w H n c k := by
  intro n
  induction n with
  | zero =>
    intro c hc h
    rw [hp_w0 (by omega), hp_w0 (by omega)]
  | succ n ih =>
    intro c hc h
    by_cases z : H 0 c = 0
    · rw [hp_w0 z, hp_w0 z]
    · rw [hp_w1 z, hp_w1 z]
      obtain ⟨l, hl⟩ : ∃ l, H 0 c = l + 1 := ⟨H 0 c - 1, by omega⟩
      have h1 := hp_cl T (k := k) hc hl
      exact ih _ (hp_cS T hc) (by omega)
theorem hp_w16 (T : hp_T H S) {c k : Nat} (hc : S c) (z : H 0 c ≠ 0) : hp_w H 16 c k = hp_w H 16 (hp_c H c k) k := by
  rw [hp_w1 z]
  obtain ⟨l, hl⟩ : ∃ l, H 0 c = l + 1 := ⟨H 0 c - 1, by omega⟩
  have h1 := hp_cl T (k := k) hc hl
  have h2 := hp_l16 T hc
  exact (hp_wf T 15 _ (hp_cS T hc) (by omega)).symm
theorem hp_wS (T : hp_T H S) {k : Nat} : ∀ (n c : Nat), S c → H 0 c ≤ n → S (hp_w H n c k) ∧ H 0 (hp_w H n c k) = 0 ∧ (c ≠ 0 → hp_w H n c k ≠ 0) := by
  intro n
  induction n with
  | zero =>
    intro c hc h
    exact ⟨hc, by show H 0 c = 0; omega, fun z => z⟩
  | succ n ih =>
    intro c hc h
    by_cases z : H 0 c = 0
    · rw [hp_w0 z]
      exact ⟨hc, z, fun z => z⟩
    · rw [hp_w1 z]
      obtain ⟨l, hl⟩ : ∃ l, H 0 c = l + 1 := ⟨H 0 c - 1, by omega⟩
      have h1 := hp_cl T (k := k) hc hl
      have h2 := ih _ (hp_cS T (k := k) hc) (by omega)
      exact ⟨h2.1, h2.2.1, fun _ => h2.2.2 h1.2⟩
theorem hp_wE (T : hp_T H S) {c k : Nat} (hc : S c) : S (hp_w H 16 c k) ∧ H 0 (hp_w H 16 c k) = 0 ∧ (c ≠ 0 → hp_w H 16 c k ≠ 0) :=
  hp_wS T 16 c hc (hp_l16 T hc)
theorem mp_0 (T : hp_T H S) (k : Nat) : mp_m H 0 k = 0 := by
  unfold mp_m
  rw [hp_w0 T.1.1]
  have e : (hp_d H 0).snd = 0 := rfl
  rw [e]
  split <;> rfl
theorem mp_l {c k : Nat} (h0 : c ≠ 0) (z : H 0 c = 0) : mp_m H c k = if H 1 c = k then H 2 c + 1 else 0 := by
  unfold mp_m
  rw [hp_w0 z]
  have e : (hp_d H c).snd = H 2 c + 1 := if_neg h0
  rw [e]
  rfl
theorem mp_s (T : hp_T H S) {c k : Nat} (hc : S c) (z : H 0 c ≠ 0) : mp_m H c k = mp_m H (hp_c H c k) k := by
  unfold mp_m
  rw [hp_w16 T hc z]
theorem mp_w {c k : Nat} (h : mp_m H c k ≠ 0) : H 1 (hp_w H 16 c k) = k ∧ hp_w H 16 c k ≠ 0 ∧ mp_m H c k = H 2 (hp_w H 16 c k) + 1 := by
  unfold mp_m at h ⊢
  by_cases e : (hp_d H (hp_w H 16 c k)).1 = k
  · rw [if_pos e] at h ⊢
    refine ⟨e, ?_, ?_⟩
    · intro z
      exact h (by unfold hp_d; exact if_pos z)
    · by_cases z : hp_w H 16 c k = 0
      · exact absurd (by unfold hp_d; exact if_pos z) h
      · unfold hp_d; exact if_neg z
  · rw [if_neg e] at h
    exact absurd rfl h
/-- the key of the leaf lies in the range of the cell -/
theorem hp_wr (T : hp_T H S) {k : Nat} : ∀ (n c : Nat), H 0 c ≤ n → S c → c ≠ 0 → H 1 (hp_w H 16 c k) / 2 ^ (H 0 c) = H 1 c / 2 ^ (H 0 c) := by
  intro n
  induction n with
  | zero =>
    intro c h hc h0
    rw [hp_w0 (by omega)]
  | succ n ih =>
    intro c h hc h0
    by_cases z : H 0 c = 0
    · rw [hp_w0 z]
    · obtain ⟨l, hl⟩ : ∃ l, H 0 c = l + 1 := ⟨H 0 c - 1, by omega⟩
      rw [hp_w16 T hc z]
      have h1 := hp_cl T (k := k) hc hl
      have h2 := ih _ (by omega) (hp_cS T (k := k) hc) h1.2
      have h3 := pw_le (b := l) h1.1 h2
      obtain ⟨_, hq⟩ := hp_qs T hc hl
      have h4 := hq.2.2.2.2.2 l hl
      have h5 := hq.2.2.1
      rw [hl] at h5 ⊢
      have h6 := (pw_ex h5).1
      rw [pw_s, pw_s, h3]
      rw [hp_c1 hl]
      split
      · rw [h4.2.2.2.2.2]; omega
      · rw [h4.2.2.2.2.1]
theorem mp_r (T : hp_T H S) {c k : Nat} (hc : S c) (h0 : c ≠ 0) (h : mp_m H c k ≠ 0) : k / 2 ^ (H 0 c) = H 1 c / 2 ^ (H 0 c) := by
  have h1 := hp_wr T (k := k) 16 c (hp_l16 T hc) hc h0
  rw [(mp_w h).1] at h1
  exact h1
/-- the side at a branch -/
theorem hp_wd (T : hp_T H S) {c k l : Nat} (hc : S c) (hl : H 0 c = l + 1) : H 1 (hp_w H 16 c k) / 2 ^ l = H 1 c / 2 ^ l + k / 2 ^ l % 2 := by
  rw [hp_w16 T hc (by omega)]
  have h1 := hp_cl T (k := k) hc hl
  have h2 := hp_wr T (k := k) 16 _ (by have := hp_l16 T hc; omega) (hp_cS T (k := k) hc) h1.2
  have h3 := pw_le (b := l) h1.1 h2
  obtain ⟨_, hq⟩ := hp_qs T hc hl
  have h4 := hq.2.2.2.2.2 l hl
  rw [h3, hp_c1 hl]
  split
  · rw [h4.2.2.2.2.2]; omega
  · rw [h4.2.2.2.2.1]; omega
theorem mp_sl (T : hp_T H S) {c l k : Nat} (hc : S c) (hl : H 0 c = l + 1) (h : mp_m H (H 4 c) k ≠ 0) : k / 2 ^ l = H 1 c / 2 ^ l := by
  obtain ⟨_, hq⟩ := hp_qs T hc hl
  have h4 := hq.2.2.2.2.2 l hl
  rw [pw_le h4.2.2.1 (mp_r T (T.2.2 c hc).2.1 h4.1 h)]
  exact h4.2.2.2.2.1
theorem mp_sr (T : hp_T H S) {c l k : Nat} (hc : S c) (hl : H 0 c = l + 1) (h : mp_m H (H 5 c) k ≠ 0) : k / 2 ^ l = H 1 c / 2 ^ l + 1 := by
  obtain ⟨_, hq⟩ := hp_qs T hc hl
  have h4 := hq.2.2.2.2.2 l hl
  rw [pw_le h4.2.2.2.1 (mp_r T (T.2.2 c hc).2.2.1 h4.2.1 h)]
  exact h4.2.2.2.2.2
theorem hp_ev (T : hp_T H S) {c l : Nat} (hc : S c) (hl : H 0 c = l + 1) : H 1 c / 2 ^ l % 2 = 0 ∧ H 1 c = H 1 c / 2 ^ l * 2 ^ l := by
  obtain ⟨_, hq⟩ := hp_qs T hc hl
  have h5 := hq.2.2.1
  rw [hl] at h5
  exact pw_ex h5
theorem mp_a (T : hp_T H S) {c l : Nat} (hc : S c) (hl : H 0 c = l + 1) (k : Nat) : mp_m H c k = mp_m H (H 4 c) k + mp_m H (H 5 c) k ∧ (mp_m H (H 4 c) k = 0 ∨ mp_m H (H 5 c) k = 0) := by
  have h6 := (hp_ev T hc hl).1
  rw [mp_s T hc (by omega), hp_c1 hl]
  split
  · rename_i hb
    have h7 : mp_m H (H 4 c) k = 0 := by
      apply Classical.byContradiction
      intro h
      have := mp_sl T hc hl h
      omega
    rw [h7]
    exact ⟨by omega, Or.inl rfl⟩
  · rename_i hb
    have h7 : mp_m H (H 5 c) k = 0 := by
      apply Classical.byContradiction
      intro h
      have := mp_sr T hc hl h
      omega
    rw [h7]
    exact ⟨by omega, Or.inr rfl⟩
theorem mp_lt (T : hp_T H S) {c k : Nat} (hc : S c) (h : mp_m H c k ≠ 0) : k < 65536 := by
  have h1 := (mp_w h).1
  have h2 := hp_k16 T (hp_wE T (k := k) hc).1
  omega
theorem mp_v (T : hp_T H S) {c k : Nat} (hc : S c) : mp_m H c k ≤ 2147483648 := by
  by_cases h : mp_m H c k = 0
  · omega
  · have h1 := mp_w h
    have h2 := ((T.2.2 _ (hp_wE T (k := k) hc).1).2.2.2 h1.2.1).2.2.2.1
    omega
/-- the count is the number of bound keys -/
theorem mp_n (T : hp_T H S) (N : ∀ c, S c → c ≠ 0 → hp_N H c) : ∀ (n c : Nat), H 0 c ≤ n → S c → H 3 c = cn_c (mp_m H c) 65536 := by
  intro n
  induction n with
  | zero =>
    intro c h hc
    by_cases h0 : c = 0
    · rw [h0, T.1.2.2.1, cn_z (fun k _ => mp_0 T k)]
    · have h1 := N c hc h0
      have hz : H 0 c = 0 := by omega
      unfold hp_N at h1
      rw [if_pos hz] at h1
      rw [h1]
      have hk := hp_k16 T hc
      have h2 : cn_c (mp_m H c) (H 1 c) = 0 := cn_z (fun k hk => by rw [mp_l h0 hz, if_neg (by omega)])
      have h3 : cn_c (mp_m H c) 65536 = cn_c (mp_m H c) (H 1 c + 1) := cn_top (by omega) (fun k hk => by rw [mp_l h0 hz, if_neg (by omega)])
      rw [h3, cn_n, h2, mp_l h0 hz, if_pos rfl, if_neg (by omega)]
  | succ n ih =>
    intro c h hc
    by_cases z : H 0 c = 0
    · exact ih c (by omega) hc
    · obtain ⟨l, hl⟩ : ∃ l, H 0 c = l + 1 := ⟨H 0 c - 1, by omega⟩
      obtain ⟨h0, hq⟩ := hp_qs T hc hl
      have h1 := N c hc h0
      unfold hp_N at h1
      rw [if_neg z] at h1
      have h4 := hq.2.2.2.2.2 l hl
      rw [h1, ih _ (by omega) (T.2.2 c hc).2.1, ih _ (by omega) (T.2.2 c hc).2.2.1]
      exact (cn_add 65536 (fun k => (mp_a T hc hl k).1) (fun k => (mp_a T hc hl k).2)).symm
theorem hp_s0 (T : hp_T H S) (k : Nat) : ∀ n, hp_s H n 0 k = 0 := by
  intro n
  induction n with
  | zero => rfl
  | succ n ih =>
    show hp_s H n (hp_c H 0 k) k = 0
    rw [hp_c0 T.1.1, T.1.2.2.2.1]
    exact ih
theorem hp_sn (n c k : Nat) : hp_s H (n + 1) c k = hp_c H (hp_s H n c k) k := by
  induction n generalizing c with
  | zero => rfl
  | succ n ih =>
    show hp_s H (n + 1) (hp_c H c k) k = _
    rw [ih]
    rfl
theorem hp_sS (T : hp_T H S) {c : Nat} (hc : S c) (n k : Nat) : S (hp_s H n c k) := by
  induction n with
  | zero => exact hc
  | succ n ih => rw [hp_sn]; exact hp_cS T ih
theorem hp_sm (T : hp_T H S) {k : Nat} : ∀ (n c : Nat), S c → hp_s H n c k ≠ 0 → hp_w H 16 c k = hp_w H 16 (hp_s H n c k) k ∧ H 0 (hp_s H n c k) + n ≤ H 0 c := by
  intro n
  induction n with
  | zero =>
    intro c hc h
    exact ⟨rfl, Nat.le_refl _⟩
  | succ n ih =>
    intro c hc h
    have h' : hp_s H n (hp_c H c k) k ≠ 0 := h
    by_cases z : H 0 c = 0
    · rw [(hp_lf T (k := k) hc z).1, hp_s0 T] at h'
      exact absurd rfl h'
    · obtain ⟨l, hl⟩ : ∃ l, H 0 c = l + 1 := ⟨H 0 c - 1, by omega⟩
      have h1 := hp_cl T (k := k) hc hl
      have h2 := ih _ (hp_cS T (k := k) hc) h'
      rw [hp_w16 T hc z]
      exact ⟨h2.1, by show H 0 (hp_s H n (hp_c H c k) k) + (n + 1) ≤ _; omega⟩
theorem mp_sm (T : hp_T H S) {n c k : Nat} (hc : S c) (h : hp_s H n c k ≠ 0) : mp_m H c k = mp_m H (hp_s H n c k) k := by
  unfold mp_m
  rw [(hp_sm T n c hc h).1]
theorem hp_sp (T : hp_T H S) {H' : Nat → Nat → Nat} {k p : Nat} (hp : p ≠ 0) (h : ∀ c, S c → c ≠ p → hp_c H' c k = hp_c H c k) : ∀ (n r : Nat), S r → hp_s H n r k = p → hp_s H' n r k = p := by
  intro n
  induction n with
  | zero =>
    intro r hr e
    exact e
  | succ n ih =>
    intro r hr e
    have h1 := hp_sm T (n + 1) r hr (by rw [e]; exact hp)
    rw [e] at h1
    have h2 : r ≠ p := by
      intro z
      rw [z] at h1
      omega
    show hp_s H' n (hp_c H' r k) k = p
    rw [h r hr h2]
    exact ih _ (hp_cS T hr) e
/-- two heaps that agree on a closed set -/
theorem hp_fr {H' : Nat → Nat → Nat} (hS : ∀ c, S c → S (H 4 c) ∧ S (H 5 c)) (a0 : ∀ c, S c → H' 0 c = H 0 c) (a4 : ∀ c, S c → H' 4 c = H 4 c) (a5 : ∀ c, S c → H' 5 c = H 5 c) {k : Nat} : ∀ (n c : Nat), S c → hp_w H' n c k = hp_w H n c k ∧ S (hp_w H n c k) := by
  intro n
  induction n with
  | zero =>
    intro c hc
    exact ⟨rfl, hc⟩
  | succ n ih =>
    intro c hc
    have e : hp_c H' c k = hp_c H c k := by
      unfold hp_c
      rw [a0 c hc, a4 c hc, a5 c hc]
    have s : S (hp_c H c k) := by
      unfold hp_c
      split
      · exact (hS c hc).1
      · split
        · exact (hS c hc).2
        · exact (hS c hc).1
    have h1 := ih _ s
    by_cases z : H 0 c = 0
    · rw [hp_w0 z, hp_w0 (by rw [a0 c hc]; exact z)]
      exact ⟨rfl, hc⟩
    · rw [hp_w1 z, hp_w1 (by rw [a0 c hc]; exact z), e]
      exact h1
theorem mp_fr {H' : Nat → Nat → Nat} (hS : ∀ c, S c → S (H 4 c) ∧ S (H 5 c)) (a0 : ∀ c, S c → H' 0 c = H 0 c) (a1 : ∀ c, S c → H' 1 c = H 1 c) (a2 : ∀ c, S c → H' 2 c = H 2 c) (a4 : ∀ c, S c → H' 4 c = H 4 c) (a5 : ∀ c, S c → H' 5 c = H 5 c) {c : Nat} (hc : S c) : mp_m H' c = mp_m H c := by
  funext k
  have h := hp_fr hS a0 a4 a5 (k := k) 16 c hc
  unfold mp_m hp_d
  rw [h.1, a1 _ h.2, a2 _ h.2]
end
end
section
/-! the invariant of the heap -/
def ib_b (a b : Nat) : Nat := if a = b then 1 else 0
theorem ib_y {a b : Nat} (h : a = b) : ib_b a b = 1 := if_pos h
theorem ib_z {a b : Nat} (h : a ≠ b) : ib_b a b = 0 := if_neg h
theorem ib_l (a b : Nat) : ib_b a b ≤ 1 := by unfold ib_b; split <;> omega
def hp_u (H : Nat → Nat → Nat) (c : Nat) : Prop := c ≠ 0 ∧ c < 256 ∧ H 6 c ≠ 0
def hp_S (H : Nat → Nat → Nat) (c : Nat) : Prop := c < 256 ∧ (c = 0 ∨ H 6 c ≠ 0)
/-- links to c from d -/
def hp_k (H : Nat → Nat → Nat) (c d : Nat) : Nat := if d = 0 ∨ H 6 d = 0 then 0 else ib_b (H 4 d) c + ib_b (H 5 d) c
def hp_r (rt : Nat → Nat) (c s : Nat) : Nat := ib_b (rt s) c
def hp_n (H : Nat → Nat → Nat) (rt : Nat → Nat) (c : Nat) : Nat := sm_s (hp_k H c) 256 + sm_s (hp_r rt c) 5
def hp_g (H : Nat → Nat → Nat) (c : Nat) : Nat := if c = 0 ∨ H 6 c = 0 then 0 else 1
def hp_F (H : Nat → Nat → Nat) (fc : Nat) : Prop :=
  (∀ i, i < fc → H 8 i ≠ 0 ∧ H 8 i < 256 ∧ H 6 (H 8 i) = 0) ∧ (∀ i j, i < j → j < fc → H 8 i ≠ H 8 j) ∧ fc + sm_s (hp_g H) 256 = 255
def hp_G (H : Nat → Nat → Nat) (e c : Nat) : Prop := hp_Q H c ∧ H 4 c < 256 ∧ H 5 c < 256 ∧ (c ≠ e → hp_N H c)
def hp_C (H : Nat → Nat → Nat) (rt : Nat → Nat) (fc : Nat) (X : Nat → Int) (e : Nat) : Prop :=
  hp_Z H ∧ (∀ c, hp_u H c → hp_G H e c) ∧ (∀ c, c ≠ 0 → c < 256 → (H 6 c : Int) = hp_n H rt c + X c) ∧ (∀ s, s < 5 → rt s < 256) ∧ hp_F H fc
def hp_E (H : Nat → Nat → Nat) (rt : Nat → Nat) (ep : Nat) : Prop :=
  (∀ c, hp_u H c → H 7 c ≤ ep ∧ (H 7 c ≠ ep → (H 4 c ≠ 0 → H 7 (H 4 c) ≠ ep) ∧ (H 5 c ≠ 0 → H 7 (H 5 c) ≠ ep)) ∧ (H 7 c = ep → hp_n H rt c ≤ 1)) ∧
  (∀ s, s ≠ 0 → s < 5 → rt s ≠ 0 → H 7 (rt s) ≠ ep)
def hp_x (_ : Nat) : Int := 0
theorem hp_x0 (c : Nat) : hp_x c = 0 := rfl
section
variable {H H' : Nat → Nat → Nat} {rt rt' : Nat → Nat} {fc e : Nat} {X : Nat → Int}
theorem hp_ku {c d : Nat} (h : hp_u H d) : hp_k H c d = ib_b (H 4 d) c + ib_b (H 5 d) c := if_neg (by have := h.1; have := h.2.2; omega)
theorem hp_kz {c d : Nat} (h : d = 0 ∨ H 6 d = 0) : hp_k H c d = 0 := if_pos h
theorem hp_nk {c d : Nat} (h : hp_u H d) (l : H 4 d = c ∨ H 5 d = c) : 1 ≤ hp_n H rt c := by
  have h1 := sm_ge (f := hp_k H c) h.2.1
  rw [hp_ku h] at h1
  unfold hp_n
  rcases l with l | l
  · rw [ib_y l] at h1; omega
  · rw [ib_y l] at h1; omega
theorem hp_nr {c s : Nat} (h : s < 5) (l : rt s = c) : 1 ≤ hp_n H rt c := by
  have h1 := sm_ge (f := hp_r rt c) h
  unfold hp_r at h1
  rw [ib_y l] at h1
  unfold hp_n hp_r
  omega
theorem hp_Su {c : Nat} (h : hp_S H c) (h0 : c ≠ 0) : hp_u H c := ⟨h0, h.1, by rcases h.2 with z | z; exact absurd z h0; exact z⟩
theorem hp_uS {c : Nat} (h : hp_u H c) : hp_S H c := ⟨h.2.1, Or.inr h.2.2⟩
theorem hp_S0 : hp_S H 0 := ⟨by decide, Or.inl rfl⟩
theorem hp_lu (C : hp_C H rt fc X e) (hX : ∀ c, 0 ≤ X c) {c d : Nat} (h : hp_u H d) (l : H 4 d = c ∨ H 5 d = c) (h0 : c ≠ 0) : hp_u H c := by
  have h1 := C.2.1 d h
  have hc : c < 256 := by rcases l with l | l; rw [← l]; exact h1.2.1; rw [← l]; exact h1.2.2.1
  have h2 := C.2.2.1 c h0 hc
  have h3 := hp_nk (rt := rt) h l
  have h4 := hX c
  exact ⟨h0, hc, by omega⟩
theorem hp_ru (C : hp_C H rt fc X e) (hX : ∀ c, 0 ≤ X c) {s : Nat} (h : s < 5) (h0 : rt s ≠ 0) : hp_u H (rt s) := by
  have h2 := C.2.2.1 (rt s) h0 (C.2.2.2.1 s h)
  have h3 := hp_nr (H := H) (rt := rt) h rfl
  have h4 := hX (rt s)
  exact ⟨h0, C.2.2.2.1 s h, by omega⟩
theorem hp_rS (C : hp_C H rt fc X e) (hX : ∀ c, 0 ≤ X c) {s : Nat} (h : s < 5) : hp_S H (rt s) := by
  by_cases h0 : rt s = 0
  · rw [h0]; exact hp_S0
  · exact hp_uS (hp_ru C hX h h0)
theorem hp_CT (C : hp_C H rt fc X e) (hX : ∀ c, 0 ≤ X c) : hp_T H (hp_S H) := by
  refine ⟨C.1, hp_S0, fun c hc => ?_⟩
  by_cases h0 : c = 0
  · subst h0
    rw [C.1.2.2.2.1, C.1.2.2.2.2]
    exact ⟨by decide, hp_S0, hp_S0, fun z => absurd rfl z⟩
  · have hu := hp_Su hc h0
    refine ⟨hc.1, ?_, ?_, fun _ => (C.2.1 c hu).1⟩
    · by_cases z : H 4 c = 0
      · rw [z]; exact hp_S0
      · exact hp_uS (hp_lu C hX hu (Or.inl rfl) z)
    · by_cases z : H 5 c = 0
      · rw [z]; exact hp_S0
      · exact hp_uS (hp_lu C hX hu (Or.inr rfl) z)
theorem hp_CN (C : hp_C H rt fc X 0) : ∀ c, hp_S H c → c ≠ 0 → hp_N H c := fun c hc h0 => (C.2.1 c (hp_Su hc h0)).2.2.2 h0
/-- a cell with one link -/
theorem hp_one {c p : Nat} (h1 : hp_n H rt c ≤ 1) (hp : hp_u H p) (l : H 4 p = c ∨ H 5 p = c) {d : Nat} (hd : hp_u H d) (hn : d ≠ p) : H 4 d ≠ c ∧ H 5 d ≠ c := by
  have h2 := sm_ge2 (f := hp_k H c) hp.2.1 hd.2.1 (fun z => hn z.symm)
  rw [hp_ku hp, hp_ku hd] at h2
  unfold hp_n at h1
  have h3 : 1 ≤ ib_b (H 4 p) c + ib_b (H 5 p) c := by
    rcases l with l | l
    · rw [ib_y l]; omega
    · rw [ib_y l]; omega
  constructor
  · intro z
    rw [ib_y z] at h2
    omega
  · intro z
    rw [ib_y z] at h2
    omega
theorem hp_oner {c s : Nat} (h1 : hp_n H rt c ≤ 1) (hs : s < 5) (l : rt s = c) {d : Nat} (hd : hp_u H d) : H 4 d ≠ c ∧ H 5 d ≠ c := by
  have h2 := sm_ge (f := hp_k H c) hd.2.1
  rw [hp_ku hd] at h2
  have h3 := sm_ge (f := hp_r rt c) hs
  rw [show hp_r rt c s = 1 from ib_y l] at h3
  unfold hp_n at h1
  constructor
  · intro z
    rw [ib_y z] at h2
    omega
  · intro z
    rw [ib_y z] at h2
    omega
theorem hp_kc {c j : Nat} (h6 : j ≠ 0 → (H' 6 j = 0 ↔ H 6 j = 0)) (h4 : H' 4 j = H 4 j) (h5 : H' 5 j = H 5 j) : hp_k H' c j = hp_k H c j := by
  unfold hp_k
  rw [h4, h5]
  by_cases z : j = 0
  · rw [if_pos (Or.inl z), if_pos (Or.inl z)]
  · by_cases y : H 6 j = 0
    · rw [if_pos (Or.inr y), if_pos (Or.inr ((h6 z).mpr y))]
    · have n1 : ¬ (j = 0 ∨ H 6 j = 0) := by omega
      have n2 : ¬ (j = 0 ∨ H' 6 j = 0) := by have := h6 z; omega
      rw [if_neg n1, if_neg n2]
/-- one more used cell -/
theorem hp_nn {d : Nat} (h0 : d ≠ 0) (hd : d < 256) (z : H 6 d = 0) (z' : H' 6 d ≠ 0) (o : ∀ j, j < 256 → j ≠ 0 → j ≠ d → (H' 6 j = 0 ↔ H 6 j = 0) ∧ H' 4 j = H 4 j ∧ H' 5 j = H 5 j) (c : Nat) :
    hp_n H' rt c = hp_n H rt c + ib_b (H' 4 d) c + ib_b (H' 5 d) c := by
  have h1 := sm_one (f := hp_k H' c) (g := hp_k H c) hd (fun j hj hn => by
    by_cases j0 : j = 0
    · rw [hp_kz (Or.inl j0), hp_kz (Or.inl j0)]
    · have h := o j hj j0 hn
      exact hp_kc (fun _ => h.1) h.2.1 h.2.2)
  rw [hp_kz (Or.inr z), hp_ku ⟨h0, hd, z'⟩] at h1
  unfold hp_n
  omega
/-- one used cell less -/
theorem hp_nf {d : Nat} (h0 : d ≠ 0) (hd : d < 256) (z : H 6 d ≠ 0) (z' : H' 6 d = 0) (o : ∀ j, j < 256 → j ≠ 0 → j ≠ d → (H' 6 j = 0 ↔ H 6 j = 0)) (a4 : H' 4 = H 4) (a5 : H' 5 = H 5) (c : Nat) :
    hp_n H' rt c + ib_b (H 4 d) c + ib_b (H 5 d) c = hp_n H rt c := by
  have h1 := hp_nn (H := H') (H' := H) (rt := rt) h0 hd z' z (fun j hj j0 hn => ⟨(o j hj j0 hn).symm, by rw [a4], by rw [a5]⟩) c
  omega
theorem hp_ns (o : ∀ j, j < 256 → j ≠ 0 → (H' 6 j = 0 ↔ H 6 j = 0)) (a4 : H' 4 = H 4) (a5 : H' 5 = H 5) (c : Nat) : hp_n H' rt c = hp_n H rt c := by
  unfold hp_n
  rw [sm_congr (f := hp_k H' c) (g := hp_k H c) (fun j hj => hp_kc (fun j0 => o j hj j0) (by rw [a4]) (by rw [a5]))]
/-- fewer used cells: no more links -/
theorem hp_nm (o : ∀ j, j ≠ 0 → H 6 j = 0 → H' 6 j = 0) (a4 : H' 4 = H 4) (a5 : H' 5 = H 5) (c : Nat) : hp_n H' rt c ≤ hp_n H rt c := by
  unfold hp_n
  have h := sm_mono (f := hp_k H' c) (g := hp_k H c) (n := 256) (fun j hj => by
    by_cases z : j = 0 ∨ H' 6 j = 0
    · rw [hp_kz z]; omega
    · have h1 : hp_k H' c j = ib_b (H' 4 j) c + ib_b (H' 5 j) c := if_neg z
      have h2 : ¬ (j = 0 ∨ H 6 j = 0) := by
        intro y
        rcases y with y | y
        · exact z (Or.inl y)
        · by_cases j0 : j = 0
          · exact z (Or.inl j0)
          · exact z (Or.inr (o j j0 y))
      have h3 : hp_k H c j = ib_b (H 4 j) c + ib_b (H 5 j) c := if_neg h2
      rw [h1, h3, a4, a5]
      omega)
  omega
/-- the child of p (0: the live root) on the side of k becomes y -/
def hp_R (H : Nat → Nat → Nat) (rt : Nat → Nat) (p k y : Nat) (H' : Nat → Nat → Nat) (rt' : Nat → Nat) : Prop :=
  (p = 0 ∧ rt' = un_u rt 0 y ∧ H' 4 = H 4 ∧ H' 5 = H 5) ∨
  (p ≠ 0 ∧ rt' = rt ∧ ((k / 2 ^ (H 0 p - 1) % 2 = 1 ∧ H' 5 = un_u (H 5) p y ∧ H' 4 = H 4) ∨ (¬ k / 2 ^ (H 0 p - 1) % 2 = 1 ∧ H' 4 = un_u (H 4) p y ∧ H' 5 = H 5)))
/-- x is the child of p (0: the live root) on the side of k -/
def hp_P (H : Nat → Nat → Nat) (rt : Nat → Nat) (p k x : Nat) : Prop := (p = 0 ∧ rt 0 = x) ∨ (hp_u H p ∧ H 0 p ≠ 0 ∧ hp_c H p k = x)
theorem hp_rn {p k x y : Nat} (P : hp_P H rt p k x) (R : hp_R H rt p k y H' rt') (a6 : H' 6 = H 6) (c : Nat) : hp_n H' rt' c + ib_b x c = hp_n H rt c + ib_b y c := by
  rcases R with ⟨p0, er, e4, e5⟩ | ⟨p0, er, R⟩
  · rcases P with ⟨_, P⟩ | ⟨P, _⟩
    · have h1 := sm_one (f := hp_r rt' c) (g := hp_r rt c) (i := 0) (n := 5) (by decide) (fun j hj hn => by
        unfold hp_r
        rw [er, un_n hn])
      have h2 : hp_r rt' c 0 = ib_b y c := by unfold hp_r; rw [er, un_s]
      have h3 : hp_r rt c 0 = ib_b x c := by unfold hp_r; rw [P]
      have h4 : sm_s (hp_k H' c) 256 = sm_s (hp_k H c) 256 := sm_congr (fun j hj => hp_kc (fun _ => by rw [a6]) (by rw [e4]) (by rw [e5]))
      unfold hp_n
      omega
    · exact absurd p0 P.1
  · rcases P with ⟨P, _⟩ | ⟨u, lv, P⟩
    · exact absurd P p0
    · subst er
      have hu : hp_u H' p := ⟨u.1, u.2.1, by rw [a6]; exact u.2.2⟩
      have h1 := sm_one (f := hp_k H' c) (g := hp_k H c) (i := p) (n := 256) u.2.1 (fun j hj hn => by
        apply hp_kc (fun _ => by rw [a6])
        · rcases R with R | R
          · rw [R.2.2]
          · rw [R.2.1, un_n hn]
        · rcases R with R | R
          · rw [R.2.1, un_n hn]
          · rw [R.2.2])
      rw [hp_ku u, hp_ku hu] at h1
      unfold hp_c at P
      rw [if_neg lv] at P
      unfold hp_n
      rcases R with R | R
      · rw [if_pos R.1] at P
        rw [R.2.1, R.2.2, un_s, P] at h1
        omega
      · rw [if_neg R.1] at P
        rw [R.2.1, R.2.2, un_s, P] at h1
        omega
end
end
section
/-! steps that keep the invariant -/
section
variable {H H' : Nat → Nat → Nat} {rt rt' : Nat → Nat} {fc e : Nat} {X : Nat → Int}
theorem hp_Gc {c : Nat} (G : hp_G H e c) (a0 : H' 0 c = H 0 c) (a1 : H' 1 c = H 1 c) (a2 : H' 2 c = H 2 c) (a3 : H' 3 c = H 3 c) (a4 : H' 4 c = H 4 c) (a5 : H' 5 c = H 5 c)
    (b4 : H' 0 (H 4 c) = H 0 (H 4 c) ∧ H' 1 (H 4 c) = H 1 (H 4 c) ∧ H' 3 (H 4 c) = H 3 (H 4 c))
    (b5 : H' 0 (H 5 c) = H 0 (H 5 c) ∧ H' 1 (H 5 c) = H 1 (H 5 c) ∧ H' 3 (H 5 c) = H 3 (H 5 c)) : hp_G H' e c := by
  unfold hp_G hp_Q hp_N at G ⊢
  rw [a0, a1, a2, a3, a4, a5, b4.1, b4.2.1, b4.2.2, b5.1, b5.2.1, b5.2.2]
  exact G
/-- a new cell d, linked from nowhere -/
theorem cv_new {g d : Nat} (C : hp_C H rt (g + 1) X e) (hd : H 8 g = d) (hX : 0 ≤ X d)
    (o : ∀ c, c ≠ d → H' 0 c = H 0 c ∧ H' 1 c = H 1 c ∧ H' 2 c = H 2 c ∧ H' 3 c = H 3 c ∧ H' 4 c = H 4 c ∧ H' 5 c = H 5 c ∧ H' 6 c = H 6 c)
    (d6 : H' 6 d = 1) (a8 : H' 8 = H 8) (G : hp_G H' e d) (l4 : H' 4 d ≠ d) (l5 : H' 5 d ≠ d) :
    hp_C H' rt g (fun c => X c + ib_b d c - ib_b (H' 4 d) c - ib_b (H' 5 d) c) e ∧ hp_n H rt d = 0 ∧ (∀ c, hp_u H c → H 4 c ≠ d ∧ H 5 c ≠ d) ∧ (∀ c, hp_n H' rt c = hp_n H rt c + ib_b (H' 4 d) c + ib_b (H' 5 d) c) := by
  obtain ⟨CZ, CG, CR, Ct, CF1, CF2, CF3⟩ := C
  have f := CF1 g (by omega)
  rw [hd] at f
  have n0 : hp_n H rt d = 0 := by have := CR d f.1 f.2.1; rw [f.2.2] at this; omega
  have nl : ∀ c, hp_u H c → H 4 c ≠ d ∧ H 5 c ≠ d := by
    intro c hc
    constructor
    · intro z; have := hp_nk (rt := rt) hc (Or.inl z); omega
    · intro z; have := hp_nk (rt := rt) hc (Or.inr z); omega
  have hn : ∀ c, hp_n H' rt c = hp_n H rt c + ib_b (H' 4 d) c + ib_b (H' 5 d) c := fun c =>
    hp_nn f.1 f.2.1 f.2.2 (by rw [d6]; decide) (fun j hj j0 jn => by
      have h := o j jn
      rw [h.2.2.2.2.2.2, h.2.2.2.2.1, h.2.2.2.2.2.1]
      exact ⟨Iff.rfl, rfl, rfl⟩) c
  refine ⟨⟨?_, ?_, ?_, Ct, ?_, ?_, ?_⟩, n0, nl, hn⟩
  · have h := o 0 (fun z => f.1 z.symm)
    unfold hp_Z at CZ ⊢
    rw [h.1, h.2.1, h.2.2.2.1, h.2.2.2.2.1, h.2.2.2.2.2.1]
    exact CZ
  · intro c hc
    by_cases z : c = d
    · rw [z]; exact G
    · have h := o c z
      have hc' : hp_u H c := ⟨hc.1, hc.2.1, by rw [← h.2.2.2.2.2.2]; exact hc.2.2⟩
      have h4 := o _ (nl c hc').1
      have h5 := o _ (nl c hc').2
      exact hp_Gc (CG c hc') h.1 h.2.1 h.2.2.1 h.2.2.2.1 h.2.2.2.2.1 h.2.2.2.2.2.1 ⟨h4.1, h4.2.1, h4.2.2.2.1⟩ ⟨h5.1, h5.2.1, h5.2.2.2.1⟩
  · intro c h0 hc
    dsimp only
    rw [hn c]
    by_cases z : c = d
    · rw [z, d6, n0, ib_y rfl, ib_z l4, ib_z l5]
      have := CR d f.1 f.2.1
      rw [f.2.2, n0] at this
      omega
    · rw [(o c z).2.2.2.2.2.2, CR c h0 hc, ib_z (fun y => z y.symm)]
      omega
  · intro i hi
    rw [a8]
    have h1 := CF1 i (by omega)
    have h2 := CF2 i g hi (by omega)
    rw [hd] at h2
    rw [(o _ h2).2.2.2.2.2.2]
    exact h1
  · intro i j hij hj
    rw [a8]
    exact CF2 i j hij (by omega)
  · have h1 := sm_one (f := hp_g H') (g := hp_g H) f.2.1 (fun j hj hn => by
      unfold hp_g
      rw [(o j hn).2.2.2.2.2.2])
    have h2 : hp_g H d = 0 := if_pos (Or.inr f.2.2)
    have h3 : hp_g H' d = 1 := if_neg (by rw [d6]; have := f.1; omega)
    omega
/-- one reference more -/
theorem cv_inc {y : Nat} (C : hp_C H rt fc X e) (hy : hp_S H y)
    (a : H' 0 = H 0 ∧ H' 1 = H 1 ∧ H' 2 = H 2 ∧ H' 3 = H 3 ∧ H' 4 = H 4 ∧ H' 5 = H 5 ∧ H' 8 = H 8)
    (o : ∀ c, H' 6 c = H 6 c + ib_b y c) : hp_C H' rt fc (fun c => X c + ib_b y c) e ∧ (∀ c, hp_n H' rt c = hp_n H rt c) ∧ (∀ c, c ≠ 0 → (H' 6 c = 0 ↔ H 6 c = 0)) := by
  obtain ⟨CZ, CG, CR, Ct, CF1, CF2, CF3⟩ := C
  obtain ⟨a0, a1, a2, a3, a4, a5, a8⟩ := a
  have u : ∀ c, c ≠ 0 → (H' 6 c = 0 ↔ H 6 c = 0) := by
    intro c h0
    rw [o c]
    by_cases z : y = c
    · subst z
      have := (hp_Su hy h0).2.2
      rw [ib_y rfl]
      omega
    · rw [ib_z z, Nat.add_zero]
  have hn : ∀ c, hp_n H' rt c = hp_n H rt c := fun c => hp_ns (fun j _ j0 => u j j0) a4 a5 c
  refine ⟨⟨?_, ?_, ?_, Ct, ?_, ?_, ?_⟩, hn, u⟩
  · unfold hp_Z at CZ ⊢
    rw [a0, a1, a3, a4, a5]
    exact CZ
  · intro c hc
    have hc' : hp_u H c := ⟨hc.1, hc.2.1, fun z => hc.2.2 ((u c hc.1).mpr z)⟩
    exact hp_Gc (CG c hc') (by rw [a0]) (by rw [a1]) (by rw [a2]) (by rw [a3]) (by rw [a4]) (by rw [a5]) (by rw [a0, a1, a3]; exact ⟨rfl, rfl, rfl⟩) (by rw [a0, a1, a3]; exact ⟨rfl, rfl, rfl⟩)
  · intro c h0 hc
    dsimp only
    rw [hn c, o c]
    have := CR c h0 hc
    omega
  · intro i hi
    rw [a8]
    have h1 := CF1 i hi
    exact ⟨h1.1, h1.2.1, (u _ h1.1).mpr h1.2.2⟩
  · intro i j hij hj
    rw [a8]
    exact CF2 i j hij hj
  · rw [← CF3, sm_congr (f := hp_g H') (g := hp_g H) (fun j hj => by
      unfold hp_g
      by_cases z : j = 0
      · rw [if_pos (Or.inl z), if_pos (Or.inl z)]
      · by_cases y : H 6 j = 0
        · rw [if_pos (Or.inr y), if_pos (Or.inr ((u j z).mpr y))]
        · have n1 : ¬ (j = 0 ∨ H 6 j = 0) := by omega
          have n2 : ¬ (j = 0 ∨ H' 6 j = 0) := by have := u j z; omega
          rw [if_neg n1, if_neg n2])]
/-- a link moves -/
theorem cv_rel {p k x y e' : Nat} (C : hp_C H rt fc X e) (P : hp_P H rt p k x) (R : hp_R H rt p k y H' rt')
    (a : H' 0 = H 0 ∧ H' 1 = H 1 ∧ H' 2 = H 2 ∧ H' 3 = H 3 ∧ H' 6 = H 6 ∧ H' 8 = H 8) (hy : y < 256)
    (hq : p ≠ 0 → y ≠ 0 ∧ H 0 y ≤ H 0 p - 1 ∧ H 1 y / 2 ^ (H 0 p - 1) = H 1 x / 2 ^ (H 0 p - 1))
    (hN : p ≠ 0 → p ≠ e' → hp_N H' p) (he : ∀ c, c ≠ p → c ≠ e' → c ≠ e) :
    hp_C H' rt' fc (fun c => X c + ib_b x c - ib_b y c) e' := by
  have hn := fun c => hp_rn P R a.2.2.2.2.1 c
  obtain ⟨CZ, CG, CR, Ct, CF1, CF2, CF3⟩ := C
  obtain ⟨a0, a1, a2, a3, a6, a8⟩ := a
  have o : ∀ c, c ≠ p → H' 4 c = H 4 c ∧ H' 5 c = H 5 c := by
    intro c hc
    rcases R with ⟨_, _, e4, e5⟩ | ⟨_, _, R | R⟩
    · rw [e4, e5]; exact ⟨rfl, rfl⟩
    · rw [R.2.1, R.2.2, un_n hc]; exact ⟨rfl, rfl⟩
    · rw [R.2.1, R.2.2, un_n hc]; exact ⟨rfl, rfl⟩
  have o0 : H' 4 0 = H 4 0 ∧ H' 5 0 = H 5 0 := by
    rcases R with ⟨_, _, e4, e5⟩ | ⟨p0, _, _⟩
    · rw [e4, e5]; exact ⟨rfl, rfl⟩
    · exact o 0 (fun z => p0 z.symm)
  refine ⟨?_, ?_, ?_, ?_, ?_, ?_, ?_⟩
  · unfold hp_Z at CZ ⊢
    rw [a0, a1, a3, o0.1, o0.2]
    exact CZ
  · intro c hc
    have hc' : hp_u H c := ⟨hc.1, hc.2.1, by rw [← a6]; exact hc.2.2⟩
    by_cases z : c = p
    · subst z
      rcases R with ⟨z, _⟩ | ⟨p0, er, R⟩
      · exact absurd z hc.1
      · rcases P with ⟨z, _⟩ | ⟨u, lv, P⟩
        · exact absurd z hc.1
        · have g := CG c hc'
          have q := hq p0
          obtain ⟨l, hl⟩ : ∃ l, H 0 c = l + 1 := ⟨H 0 c - 1, by omega⟩
          rw [hl, Nat.add_sub_cancel] at q
          have g1 := g.1.2.2.2.2.2 l hl
          rw [hl, Nat.add_sub_cancel] at R
          rw [hp_c1 hl] at P
          refine ⟨⟨by rw [a0]; exact g.1.1, by rw [a1]; exact g.1.2.1, by rw [a0, a1]; exact g.1.2.2.1, by rw [a2]; exact g.1.2.2.2.1, fun z => absurd (by rw [a0] at z; exact z) lv, ?_⟩, ?_, ?_, fun z => hN p0 z⟩
          · intro h hh
            rw [a0] at hh
            have hlh : h = l := by omega
            subst hlh
            rcases R with R | R
            · rw [if_pos R.1] at P
              subst P
              rw [R.2.1, R.2.2, un_s, a0, a1]
              exact ⟨g1.1, q.1, g1.2.2.1, q.2.1, g1.2.2.2.2.1, by rw [q.2.2]; exact g1.2.2.2.2.2⟩
            · rw [if_neg R.1] at P
              subst P
              rw [R.2.1, R.2.2, un_s, a0, a1]
              exact ⟨q.1, g1.2.1, q.2.1, g1.2.2.2.1, by rw [q.2.2]; exact g1.2.2.2.2.1, g1.2.2.2.2.2⟩
          · rcases R with R | R
            · rw [R.2.2]; exact g.2.1
            · rw [R.2.1, un_s]; exact hy
          · rcases R with R | R
            · rw [R.2.1, un_s]; exact hy
            · rw [R.2.2]; exact g.2.2.1
    · have g := CG c hc'
      have g' : hp_G H e' c := ⟨g.1, g.2.1, g.2.2.1, fun y => g.2.2.2 (he c z y)⟩
      exact hp_Gc g' (by rw [a0]) (by rw [a1]) (by rw [a2]) (by rw [a3]) (o c z).1 (o c z).2 (by rw [a0, a1, a3]; exact ⟨rfl, rfl, rfl⟩) (by rw [a0, a1, a3]; exact ⟨rfl, rfl, rfl⟩)
  · intro c h0 hc
    dsimp only
    have h1 := hn c
    have h2 := CR c h0 hc
    rw [a6]
    omega
  · intro s hs
    rcases R with ⟨_, er, _⟩ | ⟨_, er, _⟩
    · rw [er]
      unfold un_u
      split
      · exact hy
      · exact Ct s hs
    · rw [er]; exact Ct s hs
  · intro i hi
    rw [a8, a6]
    exact CF1 i hi
  · intro i j hij hj
    rw [a8]
    exact CF2 i j hij hj
  · rw [← CF3, sm_congr (f := hp_g H') (g := hp_g H) (fun j hj => by unfold hp_g; rw [a6])]
/-- the count of q changes: the hole moves from its parent p to q -/
theorem cv_cnt {p q : Nat} (C : hp_C H rt fc X e) (hq : hp_u H q)
    (a : H' 0 = H 0 ∧ H' 1 = H 1 ∧ H' 2 = H 2 ∧ H' 4 = H 4 ∧ H' 5 = H 5 ∧ H' 6 = H 6 ∧ H' 8 = H 8)
    (o : ∀ c, c ≠ q → H' 3 c = H 3 c)
    (u : ∀ d, hp_u H d → d ≠ p → H 4 d ≠ q ∧ H 5 d ≠ q) (hN : hp_u H p → p ≠ q → hp_N H' p) (he : ∀ c, c ≠ p → c ≠ q → c ≠ e) :
    hp_C H' rt fc X q := by
  obtain ⟨CZ, CG, CR, Ct, CF1, CF2, CF3⟩ := C
  obtain ⟨a0, a1, a2, a4, a5, a6, a8⟩ := a
  refine ⟨?_, ?_, ?_, Ct, ?_, ?_, ?_⟩
  · unfold hp_Z at CZ ⊢
    rw [a0, a1, o 0 (fun z => hq.1 z.symm), a4, a5]
    exact CZ
  · intro c hc
    have hc' : hp_u H c := ⟨hc.1, hc.2.1, by rw [← a6]; exact hc.2.2⟩
    have g := CG c hc'
    have gq : hp_Q H' c := by
      have := g.1
      unfold hp_Q at this ⊢
      rw [a0, a1, a2, a4, a5]
      exact this
    refine ⟨gq, by rw [a4]; exact g.2.1, by rw [a5]; exact g.2.2.1, ?_⟩
    intro cq
    by_cases z : c = p
    · subst z; exact hN hc' cq
    · have h1 := g.2.2.2 (he c z cq)
      have h2 := u c hc' z
      unfold hp_N at h1 ⊢
      rw [o c cq, a0, a4, a5, o _ h2.1, o _ h2.2]
      exact h1
  · intro c h0 hc
    rw [hp_ns (H := H) (fun j _ _ => by rw [a6]) a4 a5 c, a6]
    exact CR c h0 hc
  · intro i hi
    rw [a8, a6]
    exact CF1 i hi
  · intro i j hij hj
    rw [a8]
    exact CF2 i j hij hj
  · rw [← CF3, sm_congr (f := hp_g H') (g := hp_g H) (fun j hj => by unfold hp_g; rw [a6])]
/-- the value of a leaf changes -/
theorem cv_val {q v : Nat} (C : hp_C H rt fc X e) (hv : v < 2147483648)
    (a : H' 0 = H 0 ∧ H' 1 = H 1 ∧ H' 3 = H 3 ∧ H' 4 = H 4 ∧ H' 5 = H 5 ∧ H' 6 = H 6 ∧ H' 8 = H 8)
    (o : H' 2 = un_u (H 2) q v) : hp_C H' rt fc X e := by
  obtain ⟨CZ, CG, CR, Ct, CF1, CF2, CF3⟩ := C
  obtain ⟨a0, a1, a3, a4, a5, a6, a8⟩ := a
  refine ⟨?_, ?_, ?_, Ct, ?_, ?_, ?_⟩
  · unfold hp_Z at CZ ⊢
    rw [a0, a1, a3, a4, a5]
    exact CZ
  · intro c hc
    have hc' : hp_u H c := ⟨hc.1, hc.2.1, by rw [← a6]; exact hc.2.2⟩
    have g := CG c hc'
    have h2 : H' 2 c < 2147483648 := by
      rw [o]
      unfold un_u
      split
      · exact hv
      · exact g.1.2.2.2.1
    unfold hp_G hp_Q hp_N at g ⊢
    rw [a0, a1, a3, a4, a5]
    exact ⟨⟨g.1.1, g.1.2.1, g.1.2.2.1, h2, g.1.2.2.2.2⟩, g.2⟩
  · intro c h0 hc
    rw [hp_ns (H := H) (fun j _ _ => by rw [a6]) a4 a5 c, a6]
    exact CR c h0 hc
  · intro i hi
    rw [a8, a6]
    exact CF1 i hi
  · intro i j hij hj
    rw [a8]
    exact CF2 i j hij hj
  · rw [← CF3, sm_congr (f := hp_g H') (g := hp_g H) (fun j hj => by unfold hp_g; rw [a6])]
/-- a reference is given up, another stays -/
theorem cv_dec {x : Nat} (C : hp_C H rt fc X e) (h2 : 2 ≤ H 6 x)
    (a : H' 0 = H 0 ∧ H' 1 = H 1 ∧ H' 2 = H 2 ∧ H' 3 = H 3 ∧ H' 4 = H 4 ∧ H' 5 = H 5 ∧ H' 8 = H 8)
    (o : H' 6 = un_u (H 6) x (H 6 x - 1)) : hp_C H' rt fc (fun c => X c - ib_b x c) e := by
  obtain ⟨CZ, CG, CR, Ct, CF1, CF2, CF3⟩ := C
  obtain ⟨a0, a1, a2, a3, a4, a5, a8⟩ := a
  have u : ∀ c, (H' 6 c = 0 ↔ H 6 c = 0) := by
    intro c
    rw [o]
    by_cases z : c = x
    · rw [z, un_s]; omega
    · rw [un_n z]
  refine ⟨?_, ?_, ?_, Ct, ?_, ?_, ?_⟩
  · unfold hp_Z at CZ ⊢
    rw [a0, a1, a3, a4, a5]
    exact CZ
  · intro c hc
    have hc' : hp_u H c := ⟨hc.1, hc.2.1, fun z => hc.2.2 ((u c).mpr z)⟩
    exact hp_Gc (CG c hc') (by rw [a0]) (by rw [a1]) (by rw [a2]) (by rw [a3]) (by rw [a4]) (by rw [a5]) (by rw [a0, a1, a3]; exact ⟨rfl, rfl, rfl⟩) (by rw [a0, a1, a3]; exact ⟨rfl, rfl, rfl⟩)
  · intro c h0 hc
    dsimp only
    rw [hp_ns (H := H) (fun j _ _ => u j) a4 a5 c, o]
    have h3 := CR c h0 hc
    by_cases z : c = x
    · subst z
      rw [un_s, ib_y rfl]
      omega
    · rw [un_n z, ib_z (fun y => z y.symm)]
      omega
  · intro i hi
    rw [a8]
    have h1 := CF1 i hi
    exact ⟨h1.1, h1.2.1, (u _).mpr h1.2.2⟩
  · intro i j hij hj
    rw [a8]
    exact CF2 i j hij hj
  · rw [← CF3, sm_congr (f := hp_g H') (g := hp_g H) (fun j hj => by
      unfold hp_g
      by_cases y : H 6 j = 0
      · rw [if_pos (Or.inr y), if_pos (Or.inr ((u j).mpr y))]
      · by_cases z : j = 0
        · rw [if_pos (Or.inl z), if_pos (Or.inl z)]
        · have n1 : ¬ (j = 0 ∨ H 6 j = 0) := by omega
          have n2 : ¬ (j = 0 ∨ H' 6 j = 0) := by have := u j; omega
          rw [if_neg n1, if_neg n2])]
/-- the last reference is given up -/
theorem cv_fre {x : Nat} (C : hp_C H rt fc X e) (hx : hp_u H x) (h1 : H 6 x = 1) (hX : X x = 1)
    (a : H' 0 = H 0 ∧ H' 1 = H 1 ∧ H' 2 = H 2 ∧ H' 3 = H 3 ∧ H' 4 = H 4 ∧ H' 5 = H 5)
    (o : H' 6 = un_u (H 6) x 0) (a8 : H' 8 = un_u (H 8) fc x) : hp_C H' rt (fc + 1) (fun c => X c - ib_b x c + ib_b (H 4 x) c + ib_b (H 5 x) c) e ∧ fc < 255 := by
  obtain ⟨CZ, CG, CR, Ct, CF1, CF2, CF3⟩ := C
  obtain ⟨a0, a1, a2, a3, a4, a5⟩ := a
  have n0 : hp_n H rt x = 0 := by have := CR x hx.1 hx.2.1; omega
  have u : ∀ c, c ≠ x → (H' 6 c = 0 ↔ H 6 c = 0) := by
    intro c z
    rw [o, un_n z]
  have hn := fun c => hp_nf (H := H) (H' := H') (rt := rt) hx.1 hx.2.1 hx.2.2 (by rw [o, un_s]) (fun j _ _ z => u j z) a4 a5 c
  have s1 := sm_one (f := hp_g H') (g := hp_g H) hx.2.1 (fun j hj z => by
    unfold hp_g
    rw [o, un_n z])
  have s2 : hp_g H x = 1 := if_neg (by have := hx.1; omega)
  have s3 : hp_g H' x = 0 := if_pos (Or.inr (by rw [o, un_s]))
  refine ⟨⟨?_, ?_, ?_, Ct, ?_, ?_, by omega⟩, by omega⟩
  · unfold hp_Z at CZ ⊢
    rw [a0, a1, a3, a4, a5]
    exact CZ
  · intro c hc
    have cx : c ≠ x := by
      intro z
      have := hc.2.2
      rw [z, o, un_s] at this
      exact this rfl
    have hc' : hp_u H c := ⟨hc.1, hc.2.1, fun z => hc.2.2 ((u c cx).mpr z)⟩
    exact hp_Gc (CG c hc') (by rw [a0]) (by rw [a1]) (by rw [a2]) (by rw [a3]) (by rw [a4]) (by rw [a5]) (by rw [a0, a1, a3]; exact ⟨rfl, rfl, rfl⟩) (by rw [a0, a1, a3]; exact ⟨rfl, rfl, rfl⟩)
  · intro c h0 hc
    dsimp only
    have h3 := CR c h0 hc
    have h4 := hn c
    by_cases z : c = x
    · subst z
      rw [o, un_s, ib_y rfl]
      omega
    · rw [o, un_n z, ib_z (fun y => z y.symm)]
      omega
  · intro i hi
    by_cases z : i = fc
    · rw [z, a8, un_s, o, un_s]
      exact ⟨hx.1, hx.2.1, rfl⟩
    · have h3 := CF1 i (by omega)
      rw [a8, un_n z]
      refine ⟨h3.1, h3.2.1, ?_⟩
      rw [u _ (fun y => by rw [y] at h3; exact hx.2.2 h3.2.2)]
      exact h3.2.2
  · intro i j hij hj
    rw [a8, un_n (by omega)]
    by_cases z : j = fc
    · rw [z, un_s]
      intro y
      have h3 := CF1 i (by omega)
      rw [y] at h3
      exact hx.2.2 h3.2.2
    · rw [un_n z]
      exact CF2 i j hij (by omega)
end
end
section
/-! every used cell is reached from a root: at most 5 * 47 are used -/
def hp_l (H : Nat → Nat → Nat) : Nat → Nat → List Nat
  | 0, c => if c = 0 then [] else [c]
  | n + 1, c => if c = 0 then [] else c :: (hp_l H n (H 4 c) ++ hp_l H n (H 5 c))
theorem hp_l0 (H : Nat → Nat → Nat) (n : Nat) : hp_l H n 0 = [] := by
  cases n with
  | zero => exact if_pos rfl
  | succ n => exact if_pos rfl
theorem hp_lh (H : Nat → Nat → Nat) (n : Nat) {c : Nat} (h : c ≠ 0) : c ∈ hp_l H n c := by
  cases n with
  | zero =>
    show c ∈ (if c = 0 then [] else [c])
    rw [if_neg h]
    exact List.mem_cons_self
  | succ n =>
    show c ∈ (if c = 0 then [] else c :: (hp_l H n (H 4 c) ++ hp_l H n (H 5 c)))
    rw [if_neg h]
    exact List.mem_cons_self
theorem hp_l1 (H : Nat → Nat → Nat) (n : Nat) {c : Nat} (h : c ≠ 0) : hp_l H (n + 1) c = c :: (hp_l H n (H 4 c) ++ hp_l H n (H 5 c)) := if_neg h
section
variable {H : Nat → Nat → Nat} {S : Nat → Prop}
theorem hp_ll (T : hp_T H S) (N : ∀ c, S c → c ≠ 0 → hp_N H c) : ∀ (n c : Nat), S c → H 0 c ≤ n → c ≠ 0 → (hp_l H n c).length + 1 = 2 * H 3 c := by
  intro n
  induction n with
  | zero =>
    intro c hc h h0
    have h1 := N c hc h0
    unfold hp_N at h1
    rw [if_pos (by omega)] at h1
    show (if c = 0 then [] else [c]).length + 1 = _
    rw [if_neg h0, h1]
    rfl
  | succ n ih =>
    intro c hc h h0
    have h1 := N c hc h0
    unfold hp_N at h1
    rw [hp_l1 H n h0, List.length_cons, List.length_append]
    by_cases z : H 0 c = 0
    · rw [if_pos z] at h1
      have h2 := hp_lf T (k := 0) hc z
      rw [h2.2.1, h2.2.2, hp_l0, h1]
      rfl
    · rw [if_neg z] at h1
      obtain ⟨l, hl⟩ : ∃ l, H 0 c = l + 1 := ⟨H 0 c - 1, by omega⟩
      obtain ⟨_, hq⟩ := hp_qs T hc hl
      have h4 := hq.2.2.2.2.2 l hl
      have h5 := ih (H 4 c) (T.2.2 c hc).2.1 (by omega) h4.1
      have h6 := ih (H 5 c) (T.2.2 c hc).2.2.1 (by omega) h4.2.1
      omega
theorem hp_lc (T : hp_T H S) {d : Nat} : ∀ (n c : Nat), S c → H 0 c ≤ n → d ∈ hp_l H n c → (H 4 d ≠ 0 → H 4 d ∈ hp_l H n c) ∧ (H 5 d ≠ 0 → H 5 d ∈ hp_l H n c) := by
  intro n
  induction n with
  | zero =>
    intro c hc h hd
    by_cases h0 : c = 0
    · rw [h0, hp_l0] at hd
      exact absurd hd List.not_mem_nil
    · have e : hp_l H 0 c = [c] := if_neg h0
      rw [e, List.mem_singleton] at hd
      subst hd
      have h2 := hp_lf T (k := 0) hc (by omega)
      exact ⟨fun z => absurd h2.2.1 z, fun z => absurd h2.2.2 z⟩
  | succ n ih =>
    intro c hc h hd
    by_cases h0 : c = 0
    · rw [h0, hp_l0] at hd
      exact absurd hd List.not_mem_nil
    · rw [hp_l1 H n h0] at hd ⊢
      rw [List.mem_cons, List.mem_append] at hd
      have lv : H 0 (H 4 c) ≤ n ∧ H 0 (H 5 c) ≤ n := by
        by_cases z : H 0 c = 0
        · have h2 := hp_lf T (k := 0) hc z
          rw [h2.2.1, h2.2.2, T.1.1]
          omega
        · obtain ⟨l, hl⟩ : ∃ l, H 0 c = l + 1 := ⟨H 0 c - 1, by omega⟩
          obtain ⟨_, hq⟩ := hp_qs T hc hl
          have h4 := hq.2.2.2.2.2 l hl
          omega
      rcases hd with hd | hd | hd
      · subst hd
        exact ⟨fun z => List.mem_cons_of_mem _ (List.mem_append_left _ (hp_lh H n z)), fun z => List.mem_cons_of_mem _ (List.mem_append_right _ (hp_lh H n z))⟩
      · have h1 := ih _ (T.2.2 c hc).2.1 lv.1 hd
        exact ⟨fun z => List.mem_cons_of_mem _ (List.mem_append_left _ (h1.1 z)), fun z => List.mem_cons_of_mem _ (List.mem_append_left _ (h1.2 z))⟩
      · have h1 := ih _ (T.2.2 c hc).2.2.1 lv.2 hd
        exact ⟨fun z => List.mem_cons_of_mem _ (List.mem_append_right _ (h1.1 z)), fun z => List.mem_cons_of_mem _ (List.mem_append_right _ (h1.2 z))⟩
end
theorem hp_pg : ∀ (L : List Nat) (g : Nat → Nat) (N : Nat), (∀ i, g i ≤ 1) → (∀ i, i < N → g i ≠ 0 → i ∈ L) → sm_s g N ≤ L.length := by
  intro L
  induction L with
  | nil =>
    intro g N h1 h2
    rw [sm_z (fun i hi => Classical.byContradiction (fun z => absurd (h2 i hi z) List.not_mem_nil))]
    exact Nat.zero_le _
  | cons a L ih =>
    intro g N h1 h2
    have h3 := ih (un_u g a 0) N (fun i => by unfold un_u; split; omega; exact h1 i) (fun i hi z => by
      by_cases e : i = a
      · rw [e, un_s] at z
        exact absurd rfl z
      · rw [un_n e] at z
        have h4 := h2 i hi z
        rw [List.mem_cons] at h4
        rcases h4 with h4 | h4
        · exact absurd h4 e
        · exact h4)
    rw [List.length_cons]
    by_cases ha : a < N
    · have h4 := sm_one (f := g) (g := un_u g a 0) ha (fun j hj hn => (un_n hn).symm)
      rw [un_s] at h4
      have := h1 a
      omega
    · have h4 := sm_congr (f := g) (g := un_u g a 0) (n := N) (fun j hj => (un_n (by omega)).symm)
      omega
theorem hp_cov {H : Nat → Nat → Nat} {rt : Nat → Nat} {fc e : Nat} {X : Nat → Int} (C : hp_C H rt fc X e) (hX : ∀ c, X c = 0) : ∀ (n c : Nat), 16 - H 0 c ≤ n → hp_u H c → ∃ s, s < 5 ∧ c ∈ hp_l H 16 (rt s) := by
  have hX0 : ∀ c, 0 ≤ X c := fun c => by rw [hX]; omega
  have T := hp_CT C hX0
  intro n
  induction n with
  | zero =>
    intro c hn hc
    have h1 := C.2.2.1 c hc.1 hc.2.1
    rw [hX] at h1
    have h2 : hp_n H rt c ≠ 0 := by have := hc.2.2; omega
    unfold hp_n at h2
    by_cases z : sm_s (hp_r rt c) 5 = 0
    · obtain ⟨d, hd, hk⟩ := sm_pos (f := hp_k H c) (n := 256) (by omega)
      have hu : hp_u H d := by
        by_cases y : d = 0 ∨ H 6 d = 0
        · rw [hp_kz y] at hk
          exact absurd rfl hk
        · exact ⟨fun w => y (Or.inl w), hd, fun w => y (Or.inr w)⟩
      rw [hp_ku hu] at hk
      have lk : H 4 d = c ∨ H 5 d = c := by
        by_cases y : H 4 d = c
        · exact Or.inl y
        · rw [ib_z y] at hk
          by_cases y2 : H 5 d = c
          · exact Or.inr y2
          · rw [ib_z y2] at hk
            omega
      have hs := hp_uS hu
      by_cases y : H 0 d = 0
      · have h3 := hp_lf T (k := 0) hs y
        have := hc.1
        omega
      · obtain ⟨l, hl⟩ : ∃ l, H 0 d = l + 1 := ⟨H 0 d - 1, by omega⟩
        obtain ⟨_, hq⟩ := hp_qs T hs hl
        have h4 := hq.2.2.2.2.2 l hl
        have h5 := hq.1
        rcases lk with lk | lk
        · rw [lk] at h4; omega
        · rw [lk] at h4; omega
    · obtain ⟨s, hs, hr⟩ := sm_pos z
      refine ⟨s, hs, ?_⟩
      have e : rt s = c := Classical.byContradiction (fun y => hr (ib_z y))
      rw [e]
      exact hp_lh H 16 hc.1
  | succ n ih =>
    intro c hn hc
    have h1 := C.2.2.1 c hc.1 hc.2.1
    rw [hX] at h1
    have h2 : hp_n H rt c ≠ 0 := by have := hc.2.2; omega
    unfold hp_n at h2
    by_cases z : sm_s (hp_r rt c) 5 = 0
    · obtain ⟨d, hd, hk⟩ := sm_pos (f := hp_k H c) (n := 256) (by omega)
      have hu : hp_u H d := by
        by_cases y : d = 0 ∨ H 6 d = 0
        · rw [hp_kz y] at hk
          exact absurd rfl hk
        · exact ⟨fun w => y (Or.inl w), hd, fun w => y (Or.inr w)⟩
      rw [hp_ku hu] at hk
      have lk : H 4 d = c ∨ H 5 d = c := by
        by_cases y : H 4 d = c
        · exact Or.inl y
        · rw [ib_z y] at hk
          by_cases y2 : H 5 d = c
          · exact Or.inr y2
          · rw [ib_z y2] at hk
            omega
      have hs := hp_uS hu
      by_cases y : H 0 d = 0
      · have h3 := hp_lf T (k := 0) hs y
        have := hc.1
        omega
      · obtain ⟨l, hl⟩ : ∃ l, H 0 d = l + 1 := ⟨H 0 d - 1, by omega⟩
        obtain ⟨_, hq⟩ := hp_qs T hs hl
        have h4 := hq.2.2.2.2.2 l hl
        have h5 := hq.1
        have hlt : H 0 c ≤ l := by
          rcases lk with lk | lk
          · rw [← lk]; exact h4.2.2.1
          · rw [← lk]; exact h4.2.2.2.1
        obtain ⟨s, hs5, hm⟩ := ih d (by omega) hu
        refine ⟨s, hs5, ?_⟩
        have h6 := hp_lc T 16 (rt s) (hp_rS C hX0 hs5) (hp_l16 T (hp_rS C hX0 hs5)) hm
        rcases lk with lk | lk
        · rw [lk] at h6; exact h6.1 hc.1
        · rw [lk] at h6; exact h6.2 hc.1
    · obtain ⟨s, hs, hr⟩ := sm_pos z
      refine ⟨s, hs, ?_⟩
      have e : rt s = c := Classical.byContradiction (fun y => hr (ib_z y))
      rw [e]
      exact hp_lh H 16 hc.1
theorem hp_room {H : Nat → Nat → Nat} {rt : Nat → Nat} {fc : Nat} {X : Nat → Int} (C : hp_C H rt fc X 0) (hX : ∀ c, X c = 0) (h24 : ∀ s, s < 5 → H 3 (rt s) ≤ 24) : 20 ≤ fc := by
  have hX0 : ∀ c, 0 ≤ X c := fun c => by rw [hX]; omega
  have T := hp_CT C hX0
  have N := hp_CN C
  have len : ∀ s, s < 5 → (hp_l H 16 (rt s)).length ≤ 47 := by
    intro s hs
    by_cases z : rt s = 0
    · rw [z, hp_l0]; exact Nat.zero_le _
    · have h1 := hp_ll T N 16 (rt s) (hp_rS C hX0 hs) (hp_l16 T (hp_rS C hX0 hs)) z
      have := h24 s hs
      omega
  have h1 := hp_pg (hp_l H 16 (rt 0) ++ (hp_l H 16 (rt 1) ++ (hp_l H 16 (rt 2) ++ (hp_l H 16 (rt 3) ++ hp_l H 16 (rt 4))))) (hp_g H) 256 (fun i => by unfold hp_g; split <;> omega) (fun i hi z => by
    have hu : hp_u H i := by
      by_cases y : i = 0 ∨ H 6 i = 0
      · exact absurd (if_pos y) z
      · exact ⟨fun w => y (Or.inl w), hi, fun w => y (Or.inr w)⟩
    obtain ⟨s, hs, hm⟩ := hp_cov C hX 16 i (by omega) hu
    rw [List.mem_append, List.mem_append, List.mem_append, List.mem_append]
    have h5 : s = 0 ∨ s = 1 ∨ s = 2 ∨ s = 3 ∨ s = 4 := by omega
    rcases h5 with rfl | rfl | rfl | rfl | rfl
    · exact Or.inl hm
    · exact Or.inr (Or.inl hm)
    · exact Or.inr (Or.inr (Or.inl hm))
    · exact Or.inr (Or.inr (Or.inr (Or.inl hm)))
    · exact Or.inr (Or.inr (Or.inr (Or.inr hm))))
  rw [List.length_append, List.length_append, List.length_append, List.length_append] at h1
  have := len 0 (by decide)
  have := len 1 (by decide)
  have := len 2 (by decide)
  have := len 3 (by decide)
  have := len 4 (by decide)
  have := C.2.2.2.2.2.2
  omega
end
section
/-! a copy put in a cell's place -/
def hp_p (a0 a1 a2 a3 a4 a5 a6 a7 a8 : Nat → Nat) : Nat → Nat → Nat
  | 0 => a0
  | 1 => a1
  | 2 => a2
  | 3 => a3
  | 4 => a4
  | 5 => a5
  | 6 => a6
  | 7 => a7
  | _ => a8
/-- the way of k: x is its j-th cell, p the one above (0: none), which is the live map's own -/
def hp_W (H : Nat → Nat → Nat) (rt : Nat → Nat) (ep k j p x : Nat) : Prop :=
  hp_s H j (rt 0) k = x ∧ ((j = 0 ∧ p = 0) ∨ (∃ i, j = i + 1 ∧ hp_s H i (rt 0) k = p ∧ hp_u H p ∧ H 7 p = ep ∧ H 0 p ≠ 0))
theorem hp_xz (c : Nat) : 0 ≤ hp_x c := Int.le_refl _
section
variable {H H' Ha H1 : Nat → Nat → Nat} {rt rt1 : Nat → Nat} {fc e g d x p k y ep j : Nat} {X X' : Nat → Int}
theorem hp_Cx (C : hp_C H rt fc X e) (h : ∀ c, X c = X' c) : hp_C H rt fc X' e := by
  have h1 : X = X' := funext h
  rw [← h1]
  exact C
theorem hp_WP (w : hp_W H rt ep k j p x) : hp_P H rt p k x := by
  rcases w with ⟨h1, ⟨j0, p0⟩ | ⟨i, ji, h2, h3, h4, h5⟩⟩
  · rw [j0] at h1
    exact Or.inl ⟨p0, h1⟩
  · rw [ji, hp_sn, h2] at h1
    exact Or.inr ⟨h3, h5, h1⟩
theorem hp_Gd {e' : Nat} (G : hp_G H e x) (a0 : H' 0 d = H 0 x) (a1 : H' 1 d = H 1 x) (a2 : H' 2 d = H 2 x) (a3 : H' 3 d = H 3 x) (a4 : H' 4 d = H 4 x) (a5 : H' 5 d = H 5 x)
    (b4 : H' 0 (H 4 x) = H 0 (H 4 x) ∧ H' 1 (H 4 x) = H 1 (H 4 x) ∧ H' 3 (H 4 x) = H 3 (H 4 x))
    (b5 : H' 0 (H 5 x) = H 0 (H 5 x) ∧ H' 1 (H 5 x) = H 1 (H 5 x) ∧ H' 3 (H 5 x) = H 3 (H 5 x)) (he : d ≠ e' → x ≠ e) : hp_G H' e' d := by
  unfold hp_G hp_Q hp_N at G ⊢
  rw [a0, a1, a2, a3, a4, a5, b4.1, b4.2.1, b4.2.2, b5.1, b5.2.1, b5.2.2]
  exact ⟨G.1, G.2.1, G.2.2.1, fun z => G.2.2.2 (he z)⟩
/-- what is known of a cell taken from the free list -/
theorem hp_fd (C : hp_C H rt (g + 1) X e) (hX : 0 ≤ X d) (hd : H 8 g = d) : d ≠ 0 ∧ d < 256 ∧ H 6 d = 0 ∧ hp_n H rt d = 0 ∧ (∀ c, hp_u H c → c ≠ d ∧ H 4 c ≠ d ∧ H 5 c ≠ d) ∧ (∀ s, s < 5 → rt s ≠ d) := by
  have F := C.2.2.2.2.1 g (by omega)
  rw [hd] at F
  have n0 : hp_n H rt d = 0 := by have := C.2.2.1 d F.1 F.2.1; rw [F.2.2] at this; omega
  refine ⟨F.1, F.2.1, F.2.2, n0, ?_, ?_⟩
  · intro c hc
    refine ⟨fun z => hc.2.2 (by rw [z]; exact F.2.2), ?_, ?_⟩
    · intro z; have := hp_nk (rt := rt) hc (Or.inl z); omega
    · intro z; have := hp_nk (rt := rt) hc (Or.inr z); omega
  · intro s hs z
    have := hp_nr (H := H) hs z
    omega
/-- the heap with the copy d of x, linked from nowhere -/
def ow_N (H : Nat → Nat → Nat) (x d ep : Nat) (Ha : Nat → Nat → Nat) : Prop :=
  Ha 0 = un_u (H 0) d (H 0 x) ∧ Ha 1 = un_u (H 1) d (H 1 x) ∧ Ha 2 = un_u (H 2) d (H 2 x) ∧ Ha 3 = un_u (H 3) d (H 3 x) ∧ Ha 4 = un_u (H 4) d (H 4 x) ∧ Ha 5 = un_u (H 5) d (H 5 x) ∧
  (∀ c, Ha 6 c = un_u (H 6) d 1 c + ib_b (H 4 x) c + ib_b (H 5 x) c) ∧ Ha 7 = un_u (H 7) d ep ∧ Ha 8 = H 8
theorem ow_n (C : hp_C H rt (g + 1) hp_x e) (hx : hp_u H x) (ex : x ≠ e) (hd : H 8 g = d) (n : ow_N H x d ep Ha) :
    hp_C Ha rt g (fun c => ib_b d c) e ∧ (∀ c, hp_n Ha rt c = hp_n H rt c + ib_b (H 4 x) c + ib_b (H 5 x) c) ∧ (∀ c, c ≠ 0 → c ≠ d → (Ha 6 c = 0 ↔ H 6 c = 0)) := by
  obtain ⟨n0, n1, n2, n3, n4, n5, n6, n7, n8⟩ := n
  obtain ⟨F0, F1, F2, hn0, nl, nr⟩ := hp_fd C (hp_xz d) hd
  have T := hp_CT C hp_xz
  have xd := (nl x hx).1
  have ld := (nl x hx).2.1
  have rd := (nl x hx).2.2
  have sl : hp_S H (H 4 x) := (T.2.2 x (hp_uS hx)).2.1
  have sr : hp_S H (H 5 x) := (T.2.2 x (hp_uS hx)).2.2.1
  obtain ⟨Hn, p0, p1, p2, p3, p4, p5, p6, p8⟩ : ∃ Hn : Nat → Nat → Nat, Hn 0 = Ha 0 ∧ Hn 1 = Ha 1 ∧ Hn 2 = Ha 2 ∧ Hn 3 = Ha 3 ∧ Hn 4 = Ha 4 ∧ Hn 5 = Ha 5 ∧ Hn 6 = un_u (H 6) d 1 ∧ Hn 8 = H 8 :=
    ⟨hp_p (Ha 0) (Ha 1) (Ha 2) (Ha 3) (Ha 4) (Ha 5) (un_u (H 6) d 1) (H 7) (H 8), rfl, rfl, rfl, rfl, rfl, rfl, rfl, rfl⟩
  have o : ∀ c, c ≠ d → Hn 0 c = H 0 c ∧ Hn 1 c = H 1 c ∧ Hn 2 c = H 2 c ∧ Hn 3 c = H 3 c ∧ Hn 4 c = H 4 c ∧ Hn 5 c = H 5 c ∧ Hn 6 c = H 6 c := by
    intro c hc
    rw [p0, p1, p2, p3, p4, p5, p6, n0, n1, n2, n3, n4, n5, un_n hc, un_n hc, un_n hc, un_n hc, un_n hc, un_n hc, un_n hc]
    exact ⟨rfl, rfl, rfl, rfl, rfl, rfl, rfl⟩
  have ol := o _ ld
  have or := o _ rd
  have d4 : Hn 4 d = H 4 x := by rw [p4, n4, un_s]
  have d5 : Hn 5 d = H 5 x := by rw [p5, n5, un_s]
  have G : hp_G Hn e d := hp_Gd (C.2.1 x hx) (by rw [p0, n0, un_s]) (by rw [p1, n1, un_s]) (by rw [p2, n2, un_s]) (by rw [p3, n3, un_s]) d4 d5 ⟨ol.1, ol.2.1, ol.2.2.2.1⟩ ⟨or.1, or.2.1, or.2.2.2.1⟩ (fun _ => ex)
  obtain ⟨C1, _, _, N1⟩ := cv_new C hd (hp_xz d) o (by rw [p6, un_s]) p8 G (by rw [d4]; exact ld) (by rw [d5]; exact rd)
  rw [d4, d5] at C1
  have sS : ∀ c, hp_S H c → hp_S Hn c := by
    intro c hc
    refine ⟨hc.1, ?_⟩
    rw [p6]
    by_cases z : c = d
    · rw [z, un_s]; exact Or.inr (by decide)
    · rw [un_n z]; exact hc.2
  obtain ⟨Hi, q0, q1, q2, q3, q4, q5, q6, q8⟩ : ∃ Hi : Nat → Nat → Nat, Hi 0 = Hn 0 ∧ Hi 1 = Hn 1 ∧ Hi 2 = Hn 2 ∧ Hi 3 = Hn 3 ∧ Hi 4 = Hn 4 ∧ Hi 5 = Hn 5 ∧ (∀ c, Hi 6 c = Hn 6 c + ib_b (H 4 x) c) ∧ Hi 8 = Hn 8 :=
    ⟨hp_p (Hn 0) (Hn 1) (Hn 2) (Hn 3) (Hn 4) (Hn 5) (fun c => Hn 6 c + ib_b (H 4 x) c) (H 7) (Hn 8), rfl, rfl, rfl, rfl, rfl, rfl, fun _ => rfl, rfl⟩
  obtain ⟨C2, N2, U2⟩ := cv_inc C1 (sS _ sl) ⟨q0, q1, q2, q3, q4, q5, q8⟩ q6
  have sI : hp_S Hi (H 5 x) := by
    have h1 := sS _ sr
    refine ⟨h1.1, ?_⟩
    by_cases z : H 5 x = 0
    · exact Or.inl z
    · right
      intro y
      rcases h1.2 with h2 | h2
      · exact z h2
      · exact h2 ((U2 _ z).mp y)
  obtain ⟨C3, N3, U3⟩ := cv_inc (H' := Ha) C2 sI ⟨by rw [q0, p0], by rw [q1, p1], by rw [q2, p2], by rw [q3, p3], by rw [q4, p4], by rw [q5, p5], by rw [q8, p8, n8]⟩ (fun c => by rw [n6 c, q6 c, p6])
  refine ⟨hp_Cx C3 (fun c => by rw [hp_x0]; omega), fun c => by rw [N3 c, N2 c, N1 c, d4, d5], fun c h0 hc => ?_⟩
  rw [U3 c h0, U2 c h0, (o c hc).2.2.2.2.2.2]
/-- and linked in the place of x -/
theorem ow_c (C : hp_C H rt (g + 1) hp_x e) (hx : hp_u H x) (ex : x ≠ e) (hd : H 8 g = d) (n : ow_N H x d ep Ha) (P : hp_P H rt p k x) (R : hp_R Ha rt p k d H1 rt1)
    (a : H1 0 = Ha 0 ∧ H1 1 = Ha 1 ∧ H1 2 = Ha 2 ∧ H1 3 = Ha 3 ∧ H1 6 = Ha 6 ∧ H1 7 = Ha 7 ∧ H1 8 = Ha 8) :
    hp_C H1 rt1 g (fun c => ib_b x c) e ∧ (∀ c, hp_n H1 rt1 c + ib_b x c = hp_n H rt c + ib_b (H 4 x) c + ib_b (H 5 x) c + ib_b d c) ∧
    (p ≠ 0 → H1 3 (H1 4 p) = H 3 (H 4 p) ∧ H1 3 (H1 5 p) = H 3 (H 5 p)) := by
  obtain ⟨C1, N1, U1⟩ := ow_n C hx ex hd n
  obtain ⟨F0, F1, F2, hn0, nl, nr⟩ := hp_fd C (hp_xz d) hd
  obtain ⟨n0, n1, n2, n3, n4, n5, n6, n7, n8⟩ := n
  obtain ⟨a0, a1, a2, a3, a6, a7, a8⟩ := a
  have T := hp_CT C hp_xz
  have xd := (nl x hx).1
  have P1 : hp_P Ha rt p k x := by
    rcases P with P | ⟨u, lv, P⟩
    · exact Or.inl P
    · have pd := (nl p u).1
      refine Or.inr ⟨⟨u.1, u.2.1, ?_⟩, ?_, ?_⟩
      · intro z
        exact u.2.2 ((U1 p u.1 pd).mp z)
      · rw [n0, un_n pd]; exact lv
      · unfold hp_c at P ⊢
        rw [n0, n4, n5, un_n pd, un_n pd, un_n pd]
        exact P
  have cnt : p ≠ 0 → H1 3 (H1 4 p) = H 3 (H 4 p) ∧ H1 3 (H1 5 p) = H 3 (H 5 p) := by
    intro pz
    rcases P with ⟨z, _⟩ | ⟨u, lv, P⟩
    · exact absurd z pz
    · have pd := (nl p u)
      unfold hp_c at P
      rw [if_neg lv] at P
      rcases R with ⟨z, _⟩ | ⟨_, _, R⟩
      · exact absurd z pz
      · rw [n0, un_n pd.1] at R
        rcases R with R | R
        · rw [if_pos R.1] at P
          rw [R.2.1, R.2.2, un_s, a3, n3, un_s, n4, un_n pd.1, un_n pd.2.1, P]
          exact ⟨rfl, rfl⟩
        · rw [if_neg R.1] at P
          rw [R.2.1, R.2.2, un_s, a3, n3, un_s, n5, un_n pd.1, un_n pd.2.2, P]
          exact ⟨rfl, rfl⟩
  refine ⟨?_, ?_, cnt⟩
  · refine hp_Cx (cv_rel (e' := e) C1 P1 R ⟨a0, a1, a2, a3, a6, a8⟩ F1 ?_ ?_ (fun c _ z => z)) (fun c => by omega)
    · intro pz
      rcases P with ⟨z, _⟩ | ⟨u, lv, P⟩
      · exact absurd z pz
      · have pd := (nl p u).1
        obtain ⟨l, hl⟩ : ∃ l, H 0 p = l + 1 := ⟨H 0 p - 1, by omega⟩
        have h1 := hp_cl T (k := k) (hp_uS u) hl
        rw [P] at h1
        rw [n0, n1, un_n pd, un_s, un_s, un_n xd]
        exact ⟨F0, by omega, rfl⟩
    · intro pz pe
      have h1 := cnt pz
      rcases P with ⟨z, _⟩ | ⟨u, lv, P⟩
      · exact absurd z pz
      · have pd := (nl p u).1
        have h2 := (C.2.1 p u).2.2.2 pe
        unfold hp_N at h2 ⊢
        rw [h1.1, h1.2, a3, a0, n3, n0, un_n pd, un_n pd]
        exact h2
  · intro c
    have h1 := hp_rn P1 R a6 c
    have h2 := N1 c
    omega
/-- the maps stay -/
theorem ow_w (C : hp_C H rt (g + 1) hp_x e) (hx : hp_u H x) (hd : H 8 g = d) (n : ow_N H x d ep Ha) (P : hp_P H rt p k x) (R : hp_R Ha rt p k d H1 rt1)
    (a : H1 0 = Ha 0 ∧ H1 1 = Ha 1 ∧ H1 2 = Ha 2 ∧ H1 3 = Ha 3 ∧ H1 6 = Ha 6 ∧ H1 7 = Ha 7 ∧ H1 8 = Ha 8) {k' : Nat} :
    ∀ m, (∀ c, hp_S H c → hp_d H1 (hp_w H1 m c k') = hp_d H (hp_w H m c k')) ∧ hp_d H1 (hp_w H1 m d k') = hp_d H (hp_w H m x k') := by
  obtain ⟨F0, F1, F2, hn0, nl, nr⟩ := hp_fd C (hp_xz d) hd
  obtain ⟨n0, n1, n2, n3, n4, n5, n6, n7, n8⟩ := n
  obtain ⟨a0, a1, a2, a3, a6, a7, a8⟩ := a
  have T := hp_CT C hp_xz
  have xd := (nl x hx).1
  have sd : ∀ c, hp_S H c → c ≠ d := by
    intro c hc z
    by_cases h0 : c = 0
    · rw [h0] at z; exact F0 z.symm
    · exact (nl c (hp_Su hc h0)).1 z
  have e0 : ∀ c, c ≠ d → H1 0 c = H 0 c := fun c hc => by rw [a0, n0, un_n hc]
  have d0 : H1 0 d = H 0 x := by rw [a0, n0, un_s]
  have eD : ∀ c, c ≠ d → hp_d H1 c = hp_d H c := by
    intro c hc
    unfold hp_d
    rw [a1, a2, n1, n2, un_n hc, un_n hc]
  have dD : hp_d H1 d = hp_d H x := by
    unfold hp_d
    rw [a1, a2, n1, n2, un_s, un_s, if_neg F0, if_neg hx.1]
  have l4 : H1 4 d = H 4 x ∧ H1 5 d = H 5 x := by
    rcases R with ⟨_, _, r4, r5⟩ | ⟨pz, _, R⟩
    · rw [r4, r5, n4, n5, un_s, un_s]; exact ⟨rfl, rfl⟩
    · rcases P with ⟨z, _⟩ | ⟨u, lv, P⟩
      · exact absurd z pz
      · have dp : d ≠ p := fun z => (nl p u).1 z.symm
        rcases R with R | R
        · rw [R.2.1, R.2.2, un_n dp, n4, n5, un_s, un_s]; exact ⟨rfl, rfl⟩
        · rw [R.2.1, R.2.2, un_n dp, n4, n5, un_s, un_s]; exact ⟨rfl, rfl⟩
  have dc : hp_c H1 d k' = hp_c H x k' := by
    unfold hp_c
    rw [d0, l4.1, l4.2]
  have ec : ∀ c, hp_S H c → H 0 c ≠ 0 → hp_c H1 c k' = hp_c H c k' ∨ (hp_c H1 c k' = d ∧ hp_c H c k' = x) := by
    intro c hc lc
    have cd := sd c hc
    rcases R with ⟨_, _, r4, r5⟩ | ⟨pz, _, R⟩
    · left
      unfold hp_c
      rw [e0 c cd, r4, r5, n4, n5, un_n cd, un_n cd]
    · rcases P with ⟨z, _⟩ | ⟨u, lv, P⟩
      · exact absurd z pz
      · have pd := (nl p u).1
        rw [n0, un_n pd] at R
        unfold hp_c at P
        rw [if_neg lv] at P
        by_cases cp : c = p
        · subst cp
          unfold hp_c
          rw [e0 c cd, if_neg lv, if_neg lv]
          rcases R with R | R
          · rw [if_pos R.1] at P
            rw [R.2.1, R.2.2, un_s, n4, un_n cd]
            by_cases b : k' / 2 ^ (H 0 c - 1) % 2 = 1
            · rw [if_pos b, if_pos b]; exact Or.inr ⟨rfl, P⟩
            · rw [if_neg b, if_neg b]; exact Or.inl rfl
          · rw [if_neg R.1] at P
            rw [R.2.1, R.2.2, un_s, n5, un_n cd]
            by_cases b : k' / 2 ^ (H 0 c - 1) % 2 = 1
            · rw [if_pos b, if_pos b]; exact Or.inl rfl
            · rw [if_neg b, if_neg b]; exact Or.inr ⟨rfl, P⟩
        · left
          unfold hp_c
          rw [e0 c cd]
          rcases R with R | R
          · rw [R.2.1, R.2.2, un_n cp, n4, n5, un_n cd, un_n cd]
          · rw [R.2.1, R.2.2, un_n cp, n4, n5, un_n cd, un_n cd]
  intro m
  induction m with
  | zero => exact ⟨fun c hc => eD c (sd c hc), dD⟩
  | succ m ih =>
    constructor
    · intro c hc
      have cd := sd c hc
      by_cases z : H 0 c = 0
      · rw [hp_w0 z, hp_w0 (by rw [e0 c cd]; exact z)]
        exact eD c cd
      · rw [hp_w1 z, hp_w1 (by rw [e0 c cd]; exact z)]
        rcases ec c hc z with h | ⟨h1, h2⟩
        · rw [h]; exact ih.1 _ (hp_cS T hc)
        · rw [h1, h2]; exact ih.2
    · by_cases z : H 0 x = 0
      · rw [hp_w0 z, hp_w0 (by rw [d0]; exact z)]
        exact dD
      · rw [hp_w1 z, hp_w1 (by rw [d0]; exact z), dc]
        exact ih.1 _ (hp_cS T (hp_uS hx))
end
end
section
/-! release -/
def re_p (H : Nat → Nat → Nat) (c : Nat) : Nat := if c = 0 then 1 else 4 * H 3 c - 1
/-- the same cells but for references -/
def hp_q (H H' : Nat → Nat → Nat) : Prop := H' 0 = H 0 ∧ H' 1 = H 1 ∧ H' 2 = H 2 ∧ H' 3 = H 3 ∧ H' 4 = H 4 ∧ H' 5 = H 5 ∧ H' 7 = H 7
def re_Q (H : Nat → Nat → Nat) (e : Nat) (Q : Nat → Prop) : Prop := ∀ c, hp_u H c → Q c → c ≠ e ∧ (H 4 c ≠ 0 → Q (H 4 c)) ∧ (H 5 c ≠ 0 → Q (H 5 c))
theorem hp_qt {H H1 H2 : Nat → Nat → Nat} (a : hp_q H H1) (b : hp_q H1 H2) : hp_q H H2 :=
  ⟨b.1.trans a.1, b.2.1.trans a.2.1, b.2.2.1.trans a.2.2.1, b.2.2.2.1.trans a.2.2.2.1, b.2.2.2.2.1.trans a.2.2.2.2.1, b.2.2.2.2.2.1.trans a.2.2.2.2.2.1, b.2.2.2.2.2.2.trans a.2.2.2.2.2.2⟩
theorem re_g {H : Nat → Nat → Nat} {rt : Nat → Nat} {fc e : Nat} {X : Nat → Int} {Q : Nat → Prop} (C : hp_C H rt fc X e) (hX : ∀ c, 0 ≤ X c) (QN : re_Q H e Q) : ∀ n c, H 0 c ≤ n → hp_u H c → Q c → 1 ≤ H 3 c ∧ re_p H (H 4 c) + re_p H (H 5 c) + 1 ≤ re_p H c := by
  have T := hp_CT C hX
  intro n
  induction n with
  | zero =>
    intro c h hc hq
    have h1 := (C.2.1 c hc).2.2.2 (QN c hc hq).1
    unfold hp_N at h1
    have z : H 0 c = 0 := by omega
    rw [if_pos z] at h1
    have h2 := hp_lf T (k := 0) (hp_uS hc) z
    unfold re_p
    rw [h2.2.1, h2.2.2, h1, if_pos rfl, if_neg hc.1]
    omega
  | succ n ih =>
    intro c h hc hq
    by_cases z : H 0 c = 0
    · exact ih c (by omega) hc hq
    · have h1 := (C.2.1 c hc).2.2.2 (QN c hc hq).1
      unfold hp_N at h1
      rw [if_neg z] at h1
      obtain ⟨l, hl⟩ : ∃ l, H 0 c = l + 1 := ⟨H 0 c - 1, by omega⟩
      have h4 := (C.2.1 c hc).1.2.2.2.2.2 l hl
      have h5 := ih (H 4 c) (by omega) (hp_lu C hX hc (Or.inl rfl) h4.1) ((QN c hc hq).2.1 h4.1)
      have h6 := ih (H 5 c) (by omega) (hp_lu C hX hc (Or.inr rfl) h4.2.1) ((QN c hc hq).2.2 h4.2.1)
      refine ⟨by omega, ?_⟩
      unfold re_p
      rw [if_neg h4.1, if_neg h4.2.1, if_neg hc.1, h1]
      omega
theorem re_nb (H : Nat → Nat → Nat) (rt : Nat → Nat) (c : Nat) : hp_n H rt c ≤ 517 := by
  have h1 := sm_bd (f := hp_k H c) (n := 256) (b := 2) (fun i _ => by
    unfold hp_k
    have := ib_l (H 4 i) c
    have := ib_l (H 5 i) c
    split <;> omega)
  have h2 := sm_bd (f := hp_r rt c) (n := 5) (b := 1) (fun i _ => ib_l (rt i) c)
  unfold hp_n
  omega
theorem sm_c1 (t : Nat) : sm_s (fun _ => 1) t = t := by
  induction t with
  | zero => rfl
  | succ t ih => rw [sm_n, ih]
section
variable {cp sl th pc : Int32} {pd pA pB ca tk so ro se ki ko vo ng nc st : Nat → Int32} {rt : Nat → Nat} {ep e : Nat} {Q : Nat → Prop}
theorem re_l : ∀ (m top pops fc : Nat) (H : Nat → Nat → Nat) (P : Nat → Nat) (pd : Nat → Int32),
    sm_s (fun i => re_p H (P i)) top ≤ m → m + pops ≤ 200 → top ≤ m →
    (∀ i, i < top → pd i = nI (P i) ∧ P i < 256 ∧ (P i ≠ 0 → Q (P i))) →
    hp_C H rt fc (fun c => (sm_s (fun i => ib_b (P i) c) top : Nat)) e → re_Q H e Q →
    ∃ (H' : Nat → Nat → Nat) (fc' : Nat) (pd' : Nat → Int32), hp_C H' rt fc' hp_x e ∧ hp_q H H' ∧ (∀ c, H' 6 c ≤ H 6 c) ∧ (∀ c, ¬ Q c → H' 6 c = H 6 c) ∧ fc ≤ fc' ∧
      ∀ post : SX → Prop, post (cp, sl, th, (nI fc'), pc, (lN ep), (fun i => nI (hp_m (H' 0 i))), (fun i => nI (H' 1 i)), (fun i => nI (H' 2 i)), (fun i => nI (H' 3 i)), (fun i => nI (H' 4 i)), (fun i => nI (H' 5 i)), (fun i => nI (H' 6 i)), (fun i => lN (H' 7 i)), (fun i => nI (H' 8 i)), pd', pA, pB, (fun i => nI (rt i)), ca, tk, so, ro, se, ki, ko, vo, ng, nc, st) → ∀ n, m < n → wX_release_11 post cp sl th pc (lN ep) n (nI top) (nI pops) (nI fc) (fun i => nI (hp_m (H 0 i))) (fun i => nI (H 1 i)) (fun i => nI (H 2 i)) (fun i => nI (H 3 i)) (fun i => nI (H 4 i)) (fun i => nI (H 5 i)) (fun i => nI (H 6 i)) (fun i => lN (H 7 i)) (fun i => nI (H 8 i)) pd pA pB (fun i => nI (rt i)) ca tk so ro se ki ko vo ng nc st := by
  intro m
  induction m with
  | zero =>
    intro top pops fc H P pd hm hp ht hP C QN
    have h0 : top = 0 := by omega
    subst h0
    refine ⟨H, fc, pd, hp_Cx C (fun c => rfl), ⟨rfl, rfl, rfl, rfl, rfl, rfl, rfl⟩, fun c => Nat.le_refl _, fun _ _ => rfl, Nat.le_refl _, fun post hpost n hn => ?_⟩
    obtain ⟨n, rfl⟩ : ∃ n', n = n' + 1 := ⟨n - 1, by omega⟩
    exact br_f (nI_ge (b := 256) (by omega) (by decide)) (br_t (nI_le (a := 0) (b := 0) (by omega) (by decide)) hpost)
  | succ m ih =>
    intro top pops fc H P pd hm hp ht hP C QN
    cases top with
    | zero =>
      refine ⟨H, fc, pd, hp_Cx C (fun c => rfl), ⟨rfl, rfl, rfl, rfl, rfl, rfl, rfl⟩, fun c => Nat.le_refl _, fun _ _ => rfl, Nat.le_refl _, fun post hpost n hn => ?_⟩
      obtain ⟨n, rfl⟩ : ∃ n', n = n' + 1 := ⟨n - 1, by omega⟩
      exact br_f (nI_ge (b := 256) (by omega) (by decide)) (br_t (nI_le (a := 0) (b := 0) (by omega) (by decide)) hpost)
    | succ t =>
      have hX : ∀ c, (0 : Int) ≤ (fun c => ((sm_s (fun i => ib_b (P i) c) (t + 1) : Nat) : Int)) c := fun c => by dsimp only; omega
      have hPt := hP t (by omega)
      generalize hx : P t = x at hPt
      have hp1 : pd (nI t).toNatClampNeg = nI x := by rw [nI_clamp (by omega)]; exact hPt.1
      have sX : ∀ c, sm_s (fun i => ib_b (P i) c) (t + 1) = sm_s (fun i => ib_b (P i) c) t + ib_b x c := fun c => by rw [sm_n, hx]
      have sR : sm_s (fun i => re_p H (P i)) (t + 1) = sm_s (fun i => re_p H (P i)) t + re_p H x := by rw [sm_n, hx]
      rw [sR] at hm
      by_cases x0 : x = 0
      · have hr : re_p H x = 1 := if_pos x0
        have C2 : hp_C H rt fc (fun c => (sm_s (fun i => ib_b (P i) c) t : Nat)) e := by
          obtain ⟨c1, c2, c3, c4, c5⟩ := C
          refine ⟨c1, c2, fun c h0 hc => ?_, c4, c5⟩
          have h1 : (H 6 c : Int) = hp_n H rt c + (sm_s (fun i => ib_b (P i) c) (t + 1) : Nat) := c3 c h0 hc
          rw [sX c, ib_z (fun z => h0 (z.symm.trans x0))] at h1
          exact h1
        obtain ⟨H', fc', pd', C', q, mo, nq, fl, hw⟩ := ih t (pops + 1) fc H P pd (by omega) (by omega) (by omega) (fun i hi => hP i (by omega)) C2 QN
        refine ⟨H', fc', pd', C', q, mo, nq, fl, fun post hpost n hn => ?_⟩
        obtain ⟨n, rfl⟩ : ∃ n', n = n' + 1 := ⟨n - 1, by omega⟩
        refine br_f (nI_ge (b := 256) (by omega) (by decide)) (br_f (nI_nle (by omega) (by omega)) (nm_r (pk_m1 t) ⟨vp_in_nI (by omega) (by decide), nm_r hp1 ?_⟩))
        rw [x0]
        refine br_t rfl ?_
        unfold wX_release_49
        exact br_t rfl (nm_r (nI_1 pops) (hw post hpost n (by omega)))
      · have hRC : (H 6 x : Int) = hp_n H rt x + (sm_s (fun i => ib_b (P i) x) (t + 1) : Nat) := C.2.2.1 x x0 hPt.2.1
        rw [sX x, ib_y rfl] at hRC
        have hu : hp_u H x := ⟨x0, hPt.2.1, by omega⟩
        have hg := re_g C hX QN 16 x (C.2.1 x hu).1.1 hu (hPt.2.2 x0)
        have hr : re_p H x = 4 * H 3 x - 1 := if_neg x0
        have hnb := re_nb H rt x
        have hsb := sm_bd (f := fun i => ib_b (P i) x) (n := t) (b := 1) (fun i _ => ib_l (P i) x)
        have h6b : H 6 x < 2 ^ 31 := by omega
        have hup : upd (fun i => nI (H 6 i)) (nI x).toNatClampNeg ((fun i => nI (H 6 i)) (nI x).toNatClampNeg - 1) = fun i => nI (un_u (H 6) x (H 6 x - 1) i) := by
          rw [nI_clamp (by omega)]
          have h7 : nI (H 6 x) - 1 = nI (H 6 x - 1) := pk_sub (b := 1) (by omega)
          show upd _ x (nI (H 6 x) - 1) = _
          rw [h7, un_I]
        by_cases h2 : 2 ≤ H 6 x
        · obtain ⟨H2, p0, p1, p2, p3, p4, p5, p6, p7, p8⟩ : ∃ H2 : Nat → Nat → Nat, H2 0 = H 0 ∧ H2 1 = H 1 ∧ H2 2 = H 2 ∧ H2 3 = H 3 ∧ H2 4 = H 4 ∧ H2 5 = H 5 ∧ H2 6 = un_u (H 6) x (H 6 x - 1) ∧ H2 7 = H 7 ∧ H2 8 = H 8 :=
            ⟨hp_p (H 0) (H 1) (H 2) (H 3) (H 4) (H 5) (un_u (H 6) x (H 6 x - 1)) (H 7) (H 8), rfl, rfl, rfl, rfl, rfl, rfl, rfl, rfl, rfl⟩
          have re : ∀ c, re_p H2 c = re_p H c := fun c => by unfold re_p; rw [p3]
          have C2 := cv_dec (H' := H2) C h2 ⟨p0, p1, p2, p3, p4, p5, p8⟩ p6
          have m6 : ∀ c, H2 6 c ≤ H 6 c := by
            intro c
            rw [p6]
            unfold un_u
            split
            · rename_i z; rw [z]; omega
            · omega
          obtain ⟨H', fc', pd', C', q, mo, nq, fl, hw⟩ := ih t (pops + 1) fc H2 P pd (by rw [sm_congr (fun i _ => re (P i))]; omega) (by omega) (by omega) (fun i hi => hP i (by omega)) (hp_Cx C2 (fun c => by rw [sX c]; omega)) (fun c hc => by
            rw [p4, p5]
            exact QN c ⟨hc.1, hc.2.1, fun z => hc.2.2 (by have := m6 c; omega)⟩)
          refine ⟨H', fc', pd', C', hp_qt ⟨p0, p1, p2, p3, p4, p5, p7⟩ q, fun c => Nat.le_trans (mo c) (m6 c), fun c hc => (nq c hc).trans (by rw [p6]; exact un_n (fun z => hc (by rw [z]; exact hPt.2.2 x0))), fl, fun post hpost n hn => ?_⟩
          obtain ⟨n, rfl⟩ : ∃ n', n = n' + 1 := ⟨n - 1, by omega⟩
          refine br_f (nI_ge (b := 256) (by omega) (by decide)) (br_f (nI_nle (by omega) (by omega)) (nm_r (pk_m1 t) ⟨vp_in_nI (by omega) (by decide), nm_r hp1 (br_f (nI_ne0 (by omega) (by omega)) ⟨vp_in_nI hPt.2.1 (by decide), vp_in_nI hPt.2.1 (by decide), nm_r hup ?_⟩)⟩))
          unfold wX_release_49
          refine br_f (nI_ne0 (by omega) (by omega)) ⟨vp_in_nI hPt.2.1 (by decide), br_f ?_ (nm_r (nI_1 pops) ?_)⟩
          · dsimp only
            rw [nI_clamp (by omega), un_s]
            exact nI_ne0 (by omega) (by omega)
          · have hh := hw post hpost n (by omega)
            rw [p0, p1, p2, p3, p4, p5, p6, p7, p8] at hh
            exact hh
        · have h61 : H 6 x = 1 := by omega
          obtain ⟨H2, p0, p1, p2, p3, p4, p5, p6, p7, p8⟩ : ∃ H2 : Nat → Nat → Nat, H2 0 = H 0 ∧ H2 1 = H 1 ∧ H2 2 = H 2 ∧ H2 3 = H 3 ∧ H2 4 = H 4 ∧ H2 5 = H 5 ∧ H2 6 = un_u (H 6) x 0 ∧ H2 7 = H 7 ∧ H2 8 = un_u (H 8) fc x :=
            ⟨hp_p (H 0) (H 1) (H 2) (H 3) (H 4) (H 5) (un_u (H 6) x 0) (H 7) (un_u (H 8) fc x), rfl, rfl, rfl, rfl, rfl, rfl, rfl, rfl, rfl⟩
          have re : ∀ c, re_p H2 c = re_p H c := fun c => by unfold re_p; rw [p3]
          obtain ⟨C2, f255⟩ := cv_fre (H' := H2) C hu h61 (by rw [sX x, ib_y rfl]; omega) ⟨p0, p1, p2, p3, p4, p5⟩ p6 p8
          have m6 : ∀ c, H2 6 c ≤ H 6 c := by
            intro c
            rw [p6]
            unfold un_u
            split
            · omega
            · omega
          have gl := (C.2.1 x hu)
          let P2 := un_u (un_u P t (H 4 x)) (t + 1) (H 5 x)
          have P2a : ∀ i, i < t → P2 i = P i := fun i hi => by show un_u _ _ _ i = _; rw [un_n (by omega), un_n (by omega)]
          have P2b : P2 t = H 4 x := by show un_u _ _ _ t = _; rw [un_n (by omega), un_s]
          have P2c : P2 (t + 1) = H 5 x := un_s
          have sX2 : ∀ c, sm_s (fun i => ib_b (P2 i) c) (t + 2) = sm_s (fun i => ib_b (P i) c) t + ib_b (H 4 x) c + ib_b (H 5 x) c := fun c => by
            rw [sm_n, sm_n, P2b, P2c, sm_congr (fun i hi => by rw [P2a i hi])]
          have sR2 : sm_s (fun i => re_p H2 (P2 i)) (t + 2) = sm_s (fun i => re_p H (P i)) t + re_p H (H 4 x) + re_p H (H 5 x) := by
            rw [sm_n, sm_n, P2b, P2c, re, re, sm_congr (fun i hi => by rw [P2a i hi, re])]
          have ts : t ≤ sm_s (fun i => re_p H (P i)) t := by
            have h8 := sm_mono (f := fun _ => 1) (g := fun i => re_p H (P i)) (n := t) (fun i hi => by
              have h9 := hP i (by omega)
              by_cases z : P i = 0
              · unfold re_p; rw [if_pos z]; omega
              · have hRC2 : (H 6 (P i) : Int) = hp_n H rt (P i) + (sm_s (fun j => ib_b (P j) (P i)) (t + 1) : Nat) := C.2.2.1 (P i) z h9.2.1
                have h10 : ib_b (P i) (P i) ≤ sm_s (fun j => ib_b (P j) (P i)) (t + 1) := sm_ge (f := fun j => ib_b (P j) (P i)) (i := i) (n := t + 1) (by omega)
                rw [ib_y rfl] at h10
                have hg2 := (re_g C hX QN 16 (P i) (by
                  exact (C.2.1 (P i) ⟨z, h9.2.1, by omega⟩).1.1) ⟨z, h9.2.1, by omega⟩ (h9.2.2 z)).1
                unfold re_p
                rw [if_neg z]
                omega)
            have h11 := sm_c1 t
            omega
          have r4 : 1 ≤ re_p H (H 4 x) ∧ 1 ≤ re_p H (H 5 x) := by
            constructor
            · by_cases z : H 4 x = 0
              · unfold re_p; rw [if_pos z]; omega
              · have := (re_g C hX QN 16 (H 4 x) (C.2.1 _ (hp_lu C hX hu (Or.inl rfl) z)).1.1 (hp_lu C hX hu (Or.inl rfl) z) ((QN x hu (hPt.2.2 x0)).2.1 z)).1
                unfold re_p; rw [if_neg z]; omega
            · by_cases z : H 5 x = 0
              · unfold re_p; rw [if_pos z]; omega
              · have := (re_g C hX QN 16 (H 5 x) (C.2.1 _ (hp_lu C hX hu (Or.inr rfl) z)).1.1 (hp_lu C hX hu (Or.inr rfl) z) ((QN x hu (hPt.2.2 x0)).2.2 z)).1
                unfold re_p; rw [if_neg z]; omega
          let pd2 := upd (upd pd t (nI (H 4 x))) (t + 1) (nI (H 5 x))
          have hP2 : ∀ i, i < t + 2 → pd2 i = nI (P2 i) ∧ P2 i < 256 ∧ (P2 i ≠ 0 → Q (P2 i)) := by
            intro i hi
            by_cases i1 : i = t + 1
            · subst i1
              rw [P2c]
              exact ⟨pk_us, gl.2.2.1, fun z => (QN x hu (hPt.2.2 x0)).2.2 z⟩
            · by_cases i2 : i = t
              · subst i2
                rw [P2b]
                refine ⟨?_, gl.2.1, fun z => (QN x hu (hPt.2.2 x0)).2.1 z⟩
                show upd _ _ _ i = _
                rw [pk_un (by omega), pk_us]
              · rw [P2a i (by omega)]
                refine ⟨?_, (hP i (by omega)).2⟩
                show upd _ _ _ i = _
                rw [pk_un (by omega), pk_un (by omega)]
                exact (hP i (by omega)).1
          obtain ⟨H', fc', pd', C', q, mo, nq, fl, hw⟩ := ih (t + 2) (pops + 1) (fc + 1) H2 P2 pd2 (by rw [sR2]; omega) (by omega) (by omega) hP2 (hp_Cx C2 (fun c => by rw [sX c, sX2 c]; omega)) (fun c hc => by
            rw [p4, p5]
            exact QN c ⟨hc.1, hc.2.1, fun z => hc.2.2 (by have := m6 c; omega)⟩)
          refine ⟨H', fc', pd', C', hp_qt ⟨p0, p1, p2, p3, p4, p5, p7⟩ q, fun c => Nat.le_trans (mo c) (m6 c), fun c hc => (nq c hc).trans (by rw [p6]; exact un_n (fun z => hc (by rw [z]; exact hPt.2.2 x0))), by omega, fun post hpost n hn => ?_⟩
          obtain ⟨n, rfl⟩ : ∃ n', n = n' + 1 := ⟨n - 1, by omega⟩
          refine br_f (nI_ge (b := 256) (by omega) (by decide)) (br_f (nI_nle (by omega) (by omega)) (nm_r (pk_m1 t) ⟨vp_in_nI (by omega) (by decide), nm_r hp1 (br_f (nI_ne0 (by omega) (by omega)) ⟨vp_in_nI hPt.2.1 (by decide), vp_in_nI hPt.2.1 (by decide), nm_r hup ?_⟩)⟩))
          rw [h61]
          unfold wX_release_49
          refine br_f (nI_ne0 (by omega) (by omega)) ⟨vp_in_nI hPt.2.1 (by decide), br_t ?_ (br_f (nI_ge (b := 256) (by omega) (by decide)) (br_f (nI_ge (b := 254) (by omega) (by decide)) ⟨vp_in_nI (by omega) (by decide), nm_r (e' := fun i => nI (un_u (H 8) fc x i)) ?_ (nm_r (nI_1 fc) ⟨vp_in_nI hPt.2.1 (by decide), vp_in_nI (by omega) (by decide), nm_r (e' := upd pd t (nI (H 4 x))) ?_ ⟨vp_in_nI hPt.2.1 (by decide), ?_, nm_r (e' := pd2) ?_ (nm_r (nI_add t 2) (nm_r (nI_1 pops) ?_))⟩⟩)⟩))⟩
          · dsimp only
            rw [nI_clamp (by omega), un_s]
            rfl
          · rw [nI_clamp (by omega), un_I]
          · dsimp only
            rw [nI_clamp (by omega), nI_clamp (by omega)]
          · rw [nI_1]
            exact vp_in_nI (by omega) (by decide)
          · dsimp only
            rw [nI_1, nI_clamp (by omega), nI_clamp (by omega)]
          · have hh := hw post hpost n (by omega)
            rw [p0, p1, p2, p3, p4, p5, p6, p7, p8] at hh
            exact hh
/-- release, as it is called -/
theorem re_wp {H : Nat → Nat → Nat} {fc x : Nat} (C : hp_C H rt fc (fun c => ib_b x c) e) (hx : x < 256) (QN : re_Q H e Q) (qx : x ≠ 0 → Q x) (h50 : H 3 x ≤ 50) :
    ∃ (H' : Nat → Nat → Nat) (fc' : Nat) (pd' : Nat → Int32), hp_C H' rt fc' hp_x e ∧ hp_q H H' ∧ (∀ c, H' 6 c ≤ H 6 c) ∧ (∀ c, ¬ Q c → H' 6 c = H 6 c) ∧ fc ≤ fc' ∧
      ∀ post : SX → Prop, post (cp, sl, th, (nI fc'), pc, (lN ep), (fun i => nI (hp_m (H' 0 i))), (fun i => nI (H' 1 i)), (fun i => nI (H' 2 i)), (fun i => nI (H' 3 i)), (fun i => nI (H' 4 i)), (fun i => nI (H' 5 i)), (fun i => nI (H' 6 i)), (fun i => lN (H' 7 i)), (fun i => nI (H' 8 i)), pd', pA, pB, (fun i => nI (rt i)), ca, tk, so, ro, se, ki, ko, vo, ng, nc, st) → wpX_release post (cp, sl, th, (nI fc), pc, (lN ep), (fun i => nI (hp_m (H 0 i))), (fun i => nI (H 1 i)), (fun i => nI (H 2 i)), (fun i => nI (H 3 i)), (fun i => nI (H 4 i)), (fun i => nI (H 5 i)), (fun i => nI (H 6 i)), (fun i => lN (H 7 i)), (fun i => nI (H 8 i)), pd, pA, pB, (fun i => nI (rt i)), ca, tk, so, ro, se, ki, ko, vo, ng, nc, st) (nI x) := by
  have hr : re_p H x ≤ 199 := by unfold re_p; split <;> omega
  have hr1 : sm_s (fun i => re_p H ((fun _ => x) i)) 1 = re_p H x := by rw [sm_n, sm_0]; show 0 + re_p H x = _; omega
  obtain ⟨H', fc', pd', C', q, mo, nq, fl, hw⟩ := re_l (cp := cp) (sl := sl) (th := th) (pc := pc) (pA := pA) (pB := pB) (ca := ca) (tk := tk) (so := so) (ro := ro) (se := se) (ki := ki) (ko := ko) (vo := vo) (ng := ng) (nc := nc) (st := st) (ep := ep) 200 1 0 fc H (fun _ => x) (upd pd 0 (nI x)) (by rw [hr1]; omega) (by omega) (by omega) (fun i hi => by
    have h0 : i = 0 := by omega
    subst h0
    exact ⟨pk_us, hx, qx⟩) (hp_Cx C (fun c => by rw [sm_n, sm_0]; omega)) QN
  refine ⟨H', fc', pd', C', q, mo, nq, fl, fun post hpost => ?_⟩
  unfold wpX_release
  exact nm_e ⟨201, hw post hpost 201 (by omega)⟩
end
end
section
/-! bits -/
theorem nx_or (a b : Nat) : nI a ||| nI b = nI (a ||| b) := by
  apply Int32.toBitVec_inj.1
  show BitVec.ofNat 32 a ||| BitVec.ofNat 32 b = BitVec.ofNat 32 (a ||| b)
  apply BitVec.eq_of_getLsbD_eq
  intro i hi
  simp [hi]
theorem xI_eq32 {a b : Nat} (ha : a < 4294967296) (hb : b < 4294967296) : nI a = nI b ↔ a = b := by
  constructor
  · intro h
    have h1 := congrArg (fun x : Int32 => x.toBitVec.toNat) h
    rw [pk_tn ha, pk_tn hb] at h1
    exact h1
  · intro h; rw [h]
theorem bt_a (k h : Nat) : k &&& 2 ^ h = if k / 2 ^ h % 2 = 1 then 2 ^ h else 0 := by
  apply Nat.eq_of_testBit_eq
  intro i
  rw [Nat.testBit_and, Nat.testBit_two_pow]
  by_cases e : h = i
  · subst e
    rw [Nat.testBit_eq_decide_div_mod_eq]
    by_cases b : k / 2 ^ h % 2 = 1
    · rw [if_pos b, Nat.testBit_two_pow]
      simp [b]
    · rw [if_neg b, Nat.zero_testBit]
      simp [b]
  · by_cases b : k / 2 ^ h % 2 = 1
    · rw [if_pos b, Nat.testBit_two_pow]
      simp [e]
    · rw [if_neg b, Nat.zero_testBit]
      simp [e]
theorem bt_0 {k l : Nat} (hl : l ≤ 16) : (nI k &&& nI (hp_m l)) = 0 ↔ ¬ (l ≠ 0 ∧ k / 2 ^ (l - 1) % 2 = 1) := by
  rw [nx_and]
  cases l with
  | zero =>
    show nI (k &&& 0) = 0 ↔ _
    rw [Nat.and_zero]
    exact ⟨fun _ h => h.1 rfl, fun _ => rfl⟩
  | succ h =>
    have hp := pw_15 (h := h) (by omega)
    have h0 := pw_p h
    show nI (k &&& 2 ^ h) = 0 ↔ _
    rw [bt_a, Nat.add_sub_cancel]
    by_cases b : k / 2 ^ h % 2 = 1
    · rw [if_pos b]
      exact ⟨fun z => absurd z (nI_ne0 h0 (by omega)), fun z => absurd ⟨by omega, b⟩ z⟩
    · rw [if_neg b]
      exact ⟨fun _ z => b z.2, fun _ => rfl⟩
theorem bt_or {q h : Nat} (e : q % 2 ^ (h + 1) = 0) : q ||| 2 ^ h = q + 2 ^ h := by
  have h1 := Nat.div_add_mod q (2 ^ (h + 1))
  rw [e, Nat.add_zero] at h1
  have h2 := Nat.two_pow_add_eq_or_of_lt (i := h + 1) (b := 2 ^ h) (by rw [Nat.pow_succ]; have := pw_p h; omega) (q / 2 ^ (h + 1))
  rw [h1] at h2
  exact h2.symm
theorem bt_or1 {q h : Nat} (e : q % 2 ^ h = 0) : q ||| (2 ^ h - 1) = q + (2 ^ h - 1) := by
  have h1 := Nat.div_add_mod q (2 ^ h)
  rw [e, Nat.add_zero] at h1
  have h2 := Nat.two_pow_add_eq_or_of_lt (i := h) (b := 2 ^ h - 1) (by have := pw_p h; omega) (q / 2 ^ h)
  rw [h1] at h2
  exact h2.symm
theorem bt_x0 {a b : Nat} (h : a ^^^ b = 0) : a = b := by
  have h1 : (a ^^^ b) ^^^ b = a := by rw [Nat.xor_assoc, Nat.xor_self, Nat.xor_zero]
  rw [h, Nat.zero_xor] at h1
  exact h1.symm
theorem bt_xl {a b h : Nat} : a ^^^ b < 2 ^ h ↔ a / 2 ^ h = b / 2 ^ h := by
  constructor
  · intro z
    apply bt_x0
    rw [← Nat.xor_div_two_pow]
    exact Nat.div_eq_of_lt z
  · intro z
    have h1 : (a ^^^ b) / 2 ^ h = 0 := by rw [Nat.xor_div_two_pow, z, Nat.xor_self]
    rcases Nat.div_eq_zero_iff.mp h1 with h2 | h2
    · have := pw_p h; omega
    · exact h2
theorem bt_xt {a b j : Nat} (h1 : 2 ^ j ≤ a ^^^ b) (h2 : a ^^^ b < 2 ^ (j + 1)) : a / 2 ^ (j + 1) = b / 2 ^ (j + 1) ∧ a / 2 ^ j % 2 ≠ b / 2 ^ j % 2 := by
  have h3 := bt_xl.mp h2
  refine ⟨h3, fun z => ?_⟩
  have h4 : a / 2 ^ j = b / 2 ^ j := by
    rw [pw_s, pw_s] at h3
    omega
  have h5 := bt_xl.mpr h4
  omega
theorem bt_m1 : (-1 : Int32) = nI 4294967295 := by decide
theorem bt_cut {k j : Nat} (hk : k < 65536) (hj : j ≤ 15) : nI k &&& ((2 * nI (2 ^ j) - 1) ^^^ (-1)) = nI (k / 2 ^ (j + 1) * 2 ^ (j + 1)) := by
  have h0 := pw_p j
  have h1 : (2 : Int32) * nI (2 ^ j) - 1 = nI (2 ^ (j + 1) - 1) := by
    have h2 : (2 : Int32) * nI (2 ^ j) = nI (2 * 2 ^ j) := pk_mul 2 (2 ^ j)
    have h3 : nI (2 * 2 ^ j) - 1 = nI (2 * 2 ^ j - 1) := pk_sub (b := 1) (by omega)
    rw [h2, h3, Nat.pow_succ, Nat.mul_comm]
  rw [h1, bt_m1, nx_xor, nx_and]
  apply congrArg nI
  apply Nat.eq_of_testBit_eq
  intro i
  have e : 4294967295 = 2 ^ 32 - 1 := by decide
  rw [Nat.testBit_and, Nat.testBit_xor, e, Nat.testBit_two_pow_sub_one, Nat.testBit_two_pow_sub_one, Nat.testBit_mul_two_pow, Nat.testBit_div_two_pow]
  by_cases a : j + 1 ≤ i
  · have e2 : i - (j + 1) + (j + 1) = i := by omega
    rw [e2]
    by_cases b : i < 32
    · have a2 : ¬ i < j + 1 := by omega
      simp [a, b, a2]
    · have h4 : k.testBit i = false := Nat.testBit_lt_two_pow (Nat.lt_of_lt_of_le hk (by
        have := Nat.pow_le_pow_right (n := 2) (by decide) (show 16 ≤ i by omega)
        exact this))
      simp [h4]
  · have a2 : i < j + 1 := by omega
    have a3 : i < 32 := by omega
    simp [a, a2, a3]
theorem bt_x1 (a b : Nat) : (a ^^^ b) ^^^ a = b := by
  rw [Nat.xor_comm a b, Nat.xor_assoc, Nat.xor_self, Nat.xor_zero]
theorem bt_x2 (a b : Nat) : (a ^^^ b) ^^^ b = a := by
  rw [Nat.xor_assoc, Nat.xor_self, Nat.xor_zero]
end
section
/-! small methods of the component -/
def lk_v (n : Nat) : Int32 := if n = 0 then -1 else nI (n - 1)
theorem lk_0 : lk_v 0 = -1 := rfl
theorem lk_s (n : Nat) : lk_v (n + 1) = nI n := rfl
theorem xI_m1 {n : Nat} (h : n < 2 ^ 31) : ¬ nI n = -1 := by
  rw [bt_m1]
  intro z
  have := (xI_eq32 (by omega) (by decide)).mp z
  omega
theorem lk_m1 {n : Nat} (h : n ≤ 2147483648) : lk_v n = -1 ↔ n = 0 := by
  cases n with
  | zero => exact ⟨fun _ => rfl, fun _ => rfl⟩
  | succ n =>
    rw [lk_s]
    exact ⟨fun z => absurd z (xI_m1 (by omega)), fun z => absurd z (by omega)⟩
theorem lk_i {a b : Nat} (ha : a ≤ 2147483648) (hb : b ≤ 2147483648) : lk_v a = lk_v b ↔ a = b := by
  constructor
  · intro h
    by_cases z : b = 0
    · rw [z] at h ⊢
      exact (lk_m1 ha).mp h
    · by_cases y : a = 0
      · rw [y] at h
        exact absurd ((lk_m1 hb).mp h.symm) z
      · obtain ⟨a, rfl⟩ : ∃ a', a = a' + 1 := ⟨a - 1, by omega⟩
        obtain ⟨b, rfl⟩ : ∃ b', b = b' + 1 := ⟨b - 1, by omega⟩
        rw [lk_s, lk_s] at h
        have := (nI_eq (by omega) (by omega)).mp h
        omega
  · intro h; rw [h]
section
variable {cp sl th pc : Int32} {pd pA pB ca tk so ro se ki ko vo ng nc st : Nat → Int32} {H : Nat → Nat → Nat} {rt : Nat → Nat} {fc ep : Nat} {S : Nat → Prop}
theorem ch_wp {post : Int32 → Prop} {c k : Nat} (hc : c < 256) (hl : H 0 c ≤ 16) (h : post (nI (hp_c H c k))) : wpX_childToward post (cp, sl, th, (nI fc), pc, (lN ep), (fun i => nI (hp_m (H 0 i))), (fun i => nI (H 1 i)), (fun i => nI (H 2 i)), (fun i => nI (H 3 i)), (fun i => nI (H 4 i)), (fun i => nI (H 5 i)), (fun i => nI (H 6 i)), (fun i => lN (H 7 i)), (fun i => nI (H 8 i)), pd, pA, pB, (fun i => nI (rt i)), ca, tk, so, ro, se, ki, ko, vo, ng, nc, st) (nI c) (nI k) := by
  unfold wpX_childToward
  dsimp only
  rw [nI_clamp (by omega)]
  have hi : vp_in (nI c) 256 := vp_in_nI hc (by decide)
  refine ⟨hi, ?_⟩
  by_cases b : H 0 c ≠ 0 ∧ k / 2 ^ (H 0 c - 1) % 2 = 1
  · refine br_f (fun z => (bt_0 hl).mp z b) ⟨hi, ?_⟩
    unfold hp_c at h
    rw [if_neg b.1, if_pos b.2] at h
    exact h
  · refine br_t ((bt_0 hl).mpr b) ⟨hi, ?_⟩
    have e : hp_c H c k = H 4 c := by
      unfold hp_c
      split
      · rfl
      · rename_i y
        rw [if_neg (fun z => b ⟨y, z⟩)]
    rw [e] at h
    exact h
theorem nl_l (T : hp_T H S) {k : Nat} {post : Int32 → Prop} : ∀ m j c, m + j = 16 → H 0 c ≤ m → S c → post (nI (hp_w H 16 c k)) → ∀ n, m < n → wX_nearestLeaf_5 post (nI k) cp sl th (nI fc) pc (lN ep) (fun i => nI (hp_m (H 0 i))) (fun i => nI (H 1 i)) (fun i => nI (H 2 i)) (fun i => nI (H 3 i)) (fun i => nI (H 4 i)) (fun i => nI (H 5 i)) (fun i => nI (H 6 i)) (fun i => lN (H 7 i)) (fun i => nI (H 8 i)) pd pA pB (fun i => nI (rt i)) ca tk so ro se ki ko vo ng nc st n (nI c) (nI j) := by
  intro m
  induction m with
  | zero =>
    intro j c hj hl hc hp n hn
    obtain ⟨n, rfl⟩ : ∃ n', n = n' + 1 := ⟨n - 1, by omega⟩
    rw [hp_w0 (by omega)] at hp
    exact br_t (nI_le (a := 16) (by omega) (by omega)) hp
  | succ m ih =>
    intro j c hj hl hc hp n hn
    obtain ⟨n, rfl⟩ : ∃ n', n = n' + 1 := ⟨n - 1, by omega⟩
    have hc8 := (T.2.2 c hc).1
    have l16 := hp_l16 T hc
    have lm := hp_mb l16
    refine br_f (nI_ge (b := 16) (by omega) (by decide)) ⟨vp_in_nI hc8 (by decide), ?_⟩
    by_cases z : H 0 c = 0
    · rw [hp_w0 z] at hp
      refine br_t ?_ hp
      show nI (hp_m (H 0 (nI c).toNatClampNeg)) = 0
      rw [nI_clamp (by omega), z]
      rfl
    · refine br_f ?_ (ch_wp hc8 l16 (nm_r (nI_1 j) ?_))
      · show ¬ nI (hp_m (H 0 (nI c).toNatClampNeg)) = 0
        rw [nI_clamp (by omega)]
        exact nI_ne0 (by have := hp_m0 (l := H 0 c); omega) (by omega)
      · obtain ⟨l, hl2⟩ : ∃ l, H 0 c = l + 1 := ⟨H 0 c - 1, by omega⟩
        have h1 := hp_cl T (k := k) hc hl2
        rw [hp_w16 T hc z] at hp
        exact ih (j + 1) _ (by omega) (by omega) (hp_cS T hc) hp n (by omega)
theorem nl_wp (T : hp_T H S) {k c : Nat} {post : Int32 → Prop} (hc : S c) (hp : post (nI (hp_w H 16 c k))) : wpX_nearestLeaf post (cp, sl, th, (nI fc), pc, (lN ep), (fun i => nI (hp_m (H 0 i))), (fun i => nI (H 1 i)), (fun i => nI (H 2 i)), (fun i => nI (H 3 i)), (fun i => nI (H 4 i)), (fun i => nI (H 5 i)), (fun i => nI (H 6 i)), (fun i => lN (H 7 i)), (fun i => nI (H 8 i)), pd, pA, pB, (fun i => nI (rt i)), ca, tk, so, ro, se, ki, ko, vo, ng, nc, st) (nI c) (nI k) := by
  unfold wpX_nearestLeaf
  exact ⟨17, nl_l T 16 0 c (by omega) (hp_l16 T hc) hc hp 17 (by omega)⟩
theorem lk_wp (T : hp_T H S) {k c : Nat} {post : Int32 → Prop} (hc : S c) (hk : k < 4294967296) (hp : post (lk_v (mp_m H c k))) : wpX_lookup post (cp, sl, th, (nI fc), pc, (lN ep), (fun i => nI (hp_m (H 0 i))), (fun i => nI (H 1 i)), (fun i => nI (H 2 i)), (fun i => nI (H 3 i)), (fun i => nI (H 4 i)), (fun i => nI (H 5 i)), (fun i => nI (H 6 i)), (fun i => lN (H 7 i)), (fun i => nI (H 8 i)), pd, pA, pB, (fun i => nI (rt i)), ca, tk, so, ro, se, ki, ko, vo, ng, nc, st) (nI c) (nI k) := by
  unfold wpX_lookup
  refine nl_wp T hc ?_
  have hw := hp_wE T (k := k) hc
  unfold mp_m hp_d at hp
  generalize hp_w H 16 c k = d at hw hp
  have d8 := (T.2.2 d hw.1).1
  have dk := hp_k16 T hw.1
  dsimp only at hp ⊢
  by_cases z : d = 0
  · refine br_t (by rw [z]; rfl) ?_
    rw [if_pos z] at hp
    split at hp
    · exact hp
    · exact hp
  · rw [if_neg z] at hp
    refine br_f (nI_ne0 (by omega) (by omega)) ⟨vp_in_nI d8 (by decide), ?_⟩
    rw [nI_clamp (by omega)]
    by_cases e : H 1 d = k
    · rw [if_pos e, lk_s] at hp
      exact br_t (by rw [e]) ⟨vp_in_nI d8 (by decide), hp⟩
    · rw [if_neg e] at hp
      exact br_f (fun y => e ((xI_eq32 (by omega) hk).mp y)) hp
theorem al_wp {g d : Nat} {post : Int32 → SX → Prop} (hd : H 8 g = d) (d8 : d < 256) (hg : g < 256)
    (h : post (nI d) (cp, sl, th, (nI g), pc, (lN ep), (fun i => nI (hp_m (H 0 i))), (fun i => nI (H 1 i)), (fun i => nI (H 2 i)), (fun i => nI (H 3 i)), (fun i => nI (H 4 i)), (fun i => nI (H 5 i)), (fun i => nI (un_u (H 6) d 1 i)), (fun i => lN (un_u (H 7) d ep i)), (fun i => nI (H 8 i)), pd, pA, pB, (fun i => nI (rt i)), ca, tk, so, ro, se, ki, ko, vo, ng, nc, st)) : wpX_allocate post (cp, sl, th, (nI (g + 1)), pc, (lN ep), (fun i => nI (hp_m (H 0 i))), (fun i => nI (H 1 i)), (fun i => nI (H 2 i)), (fun i => nI (H 3 i)), (fun i => nI (H 4 i)), (fun i => nI (H 5 i)), (fun i => nI (H 6 i)), (fun i => lN (H 7 i)), (fun i => nI (H 8 i)), pd, pA, pB, (fun i => nI (rt i)), ca, tk, so, ro, se, ki, ko, vo, ng, nc, st) := by
  unfold wpX_allocate
  refine br_t (nI_lt (a := 0) (by omega) (by omega)) (nm_r (nI_pred g) ⟨vp_in_nI hg (by decide), nm_r (e' := nI d) ?_ ⟨vp_in_nI d8 (by decide), nm_r (e' := fun i => nI (un_u (H 6) d 1 i)) ?_ ⟨vp_in_nI d8 (by decide), nm_r (e' := fun i => lN (un_u (H 7) d ep i)) ?_ h⟩⟩⟩)
  · show nI (H 8 (nI g).toNatClampNeg) = nI d
    rw [nI_clamp (by omega), hd]
  · rw [nI_clamp (by omega)]
    exact un_I _ _ 1
  · rw [nI_clamp (by omega)]
    exact un_L _ _ ep
theorem nf_wp {g d k v : Nat} {post : Int32 → SX → Prop} (hd : H 8 g = d) (d8 : d < 256) (hg : g < 256)
    (h : post (nI d) (cp, sl, th, (nI g), pc, (lN ep), (fun i => nI (hp_m (un_u (H 0) d 0 i))), (fun i => nI (un_u (H 1) d k i)), (fun i => nI (un_u (H 2) d v i)), (fun i => nI (un_u (H 3) d 1 i)), (fun i => nI (un_u (H 4) d 0 i)), (fun i => nI (un_u (H 5) d 0 i)), (fun i => nI (un_u (H 6) d 1 i)), (fun i => lN (un_u (H 7) d ep i)), (fun i => nI (H 8 i)), pd, pA, pB, (fun i => nI (rt i)), ca, tk, so, ro, se, ki, ko, vo, ng, nc, st)) :
    wpX_newLeaf post (cp, sl, th, (nI (g + 1)), pc, (lN ep), (fun i => nI (hp_m (H 0 i))), (fun i => nI (H 1 i)), (fun i => nI (H 2 i)), (fun i => nI (H 3 i)), (fun i => nI (H 4 i)), (fun i => nI (H 5 i)), (fun i => nI (H 6 i)), (fun i => lN (H 7 i)), (fun i => nI (H 8 i)), pd, pA, pB, (fun i => nI (rt i)), ca, tk, so, ro, se, ki, ko, vo, ng, nc, st) (nI k) (nI v) := by
  unfold wpX_newLeaf
  refine al_wp hd d8 hg ?_
  have hi : vp_in (nI d) 256 := vp_in_nI d8 (by decide)
  refine ⟨hi, nm_r (e' := fun i => nI (hp_m (un_u (H 0) d 0 i))) ?_ ⟨hi, nm_r (e' := fun i => nI (un_u (H 1) d k i)) ?_ ⟨hi, nm_r (e' := fun i => nI (un_u (H 2) d v i)) ?_ ⟨hi, nm_r (e' := fun i => nI (un_u (H 3) d 1 i)) ?_ ⟨hi, nm_r (e' := fun i => nI (un_u (H 4) d 0 i)) ?_ ⟨hi, nm_r (e' := fun i => nI (un_u (H 5) d 0 i)) ?_ h⟩⟩⟩⟩⟩⟩
  · rw [nI_clamp (by omega)]; exact un_M _ _ 0
  · rw [nI_clamp (by omega)]; exact un_I _ _ k
  · rw [nI_clamp (by omega)]; exact un_I _ _ v
  · rw [nI_clamp (by omega)]; exact un_I _ _ 1
  · rw [nI_clamp (by omega)]; exact un_I _ _ 0
  · rw [nI_clamp (by omega)]; exact un_I _ _ 0
theorem rl_wp {p k y : Nat} (p8 : p < 256) (hl : p ≠ 0 → H 0 p ≠ 0 ∧ H 0 p ≤ 16) :
    ∃ (H1 : Nat → Nat → Nat) (rt1 : Nat → Nat), hp_R H rt p k y H1 rt1 ∧ (H1 0 = H 0 ∧ H1 1 = H 1 ∧ H1 2 = H 2 ∧ H1 3 = H 3 ∧ H1 6 = H 6 ∧ H1 7 = H 7 ∧ H1 8 = H 8) ∧
      ∀ post : SX → Prop, post (cp, sl, th, (nI fc), pc, (lN ep), (fun i => nI (hp_m (H1 0 i))), (fun i => nI (H1 1 i)), (fun i => nI (H1 2 i)), (fun i => nI (H1 3 i)), (fun i => nI (H1 4 i)), (fun i => nI (H1 5 i)), (fun i => nI (H1 6 i)), (fun i => lN (H1 7 i)), (fun i => nI (H1 8 i)), pd, pA, pB, (fun i => nI (rt1 i)), ca, tk, so, ro, se, ki, ko, vo, ng, nc, st) → wpX_relink post (cp, sl, th, (nI fc), pc, (lN ep), (fun i => nI (hp_m (H 0 i))), (fun i => nI (H 1 i)), (fun i => nI (H 2 i)), (fun i => nI (H 3 i)), (fun i => nI (H 4 i)), (fun i => nI (H 5 i)), (fun i => nI (H 6 i)), (fun i => lN (H 7 i)), (fun i => nI (H 8 i)), pd, pA, pB, (fun i => nI (rt i)), ca, tk, so, ro, se, ki, ko, vo, ng, nc, st) (nI p) (nI k) (nI y) := by
  by_cases z : p = 0
  · subst z
    refine ⟨H, un_u rt 0 y, Or.inl ⟨rfl, rfl, rfl, rfl⟩, ⟨rfl, rfl, rfl, rfl, rfl, rfl, rfl⟩, fun post hp => ?_⟩
    unfold wpX_relink
    exact br_t rfl (nm_r (un_I rt 0 y) hp)
  · have hq := hl z
    have hi : vp_in (nI p) 256 := vp_in_nI p8 (by decide)
    by_cases b : k / 2 ^ (H 0 p - 1) % 2 = 1
    · refine ⟨hp_p (H 0) (H 1) (H 2) (H 3) (H 4) (un_u (H 5) p y) (H 6) (H 7) (H 8), rt, Or.inr ⟨z, rfl, Or.inl ⟨b, rfl, rfl⟩⟩, ⟨rfl, rfl, rfl, rfl, rfl, rfl, rfl⟩, fun post hp => ?_⟩
      unfold wpX_relink
      refine br_f (nI_ne0 (by omega) (by omega)) ⟨hi, br_f ?_ ⟨hi, nm_r (e' := fun i => nI (un_u (H 5) p y i)) ?_ hp⟩⟩
      · show ¬ nI k &&& nI (hp_m (H 0 (nI p).toNatClampNeg)) = 0
        rw [nI_clamp (by omega)]
        exact fun w => (bt_0 hq.2).mp w ⟨hq.1, b⟩
      · rw [nI_clamp (by omega)]; exact un_I _ _ y
    · refine ⟨hp_p (H 0) (H 1) (H 2) (H 3) (un_u (H 4) p y) (H 5) (H 6) (H 7) (H 8), rt, Or.inr ⟨z, rfl, Or.inr ⟨b, rfl, rfl⟩⟩, ⟨rfl, rfl, rfl, rfl, rfl, rfl, rfl⟩, fun post hp => ?_⟩
      unfold wpX_relink
      refine br_f (nI_ne0 (by omega) (by omega)) ⟨hi, br_t ?_ ⟨hi, nm_r (e' := fun i => nI (un_u (H 4) p y i)) ?_ hp⟩⟩
      · show nI k &&& nI (hp_m (H 0 (nI p).toNatClampNeg)) = 0
        rw [nI_clamp (by omega)]
        exact (bt_0 hq.2).mpr (fun w => b w.2)
      · rw [nI_clamp (by omega)]; exact un_I _ _ y
theorem tb_l {x : Nat} (h0 : x ≠ 0) : ∀ m i, m + i = 15 → x < 2 ^ (m + 1) → ∃ j, j ≤ m ∧ 2 ^ j ≤ x ∧ x < 2 ^ (j + 1) ∧ ∀ post : Int32 → Prop, post (nI (2 ^ j)) → ∀ n, m < n → wX_topBit_5 post (nI x) cp sl th (nI fc) pc (lN ep) (fun i => nI (hp_m (H 0 i))) (fun i => nI (H 1 i)) (fun i => nI (H 2 i)) (fun i => nI (H 3 i)) (fun i => nI (H 4 i)) (fun i => nI (H 5 i)) (fun i => nI (H 6 i)) (fun i => lN (H 7 i)) (fun i => nI (H 8 i)) pd pA pB (fun i => nI (rt i)) ca tk so ro se ki ko vo ng nc st n (nI (2 ^ m)) (nI i) := by
  intro m
  induction m with
  | zero =>
    intro i hi hx
    refine ⟨0, by omega, by omega, by omega, fun post hp n hn => ?_⟩
    obtain ⟨n, rfl⟩ : ∃ n', n = n' + 1 := ⟨n - 1, by omega⟩
    exact br_t (nI_le (a := 15) (by omega) (by omega)) hp
  | succ m ih =>
    intro i hi hx
    have hb : (nI x &&& nI (2 ^ (m + 1))) = 0 ↔ ¬ (m + 2 ≠ 0 ∧ x / 2 ^ (m + 1) % 2 = 1) := bt_0 (l := m + 2) (by omega)
    have hr := pw_rg (k := x) (h := m + 1) rfl
    have hq : x / 2 ^ (m + 1) < 2 := by
      apply Nat.div_lt_of_lt_mul
      rw [← Nat.pow_succ]
      exact hx
    by_cases b : x / 2 ^ (m + 1) % 2 = 1
    · have b1 : x / 2 ^ (m + 1) = 1 := by clear hr hb; generalize x / 2 ^ (m + 1) = q at hq b ⊢; omega
      rw [b1] at hr
      refine ⟨m + 1, by omega, by omega, hx, fun post hp n hn => ?_⟩
      obtain ⟨n, rfl⟩ : ∃ n', n = n' + 1 := ⟨n - 1, by omega⟩
      exact br_f (nI_ge (b := 15) (by omega) (by decide)) (br_f (fun w => hb.mp w ⟨by omega, b⟩) hp)
    · have b1 : x / 2 ^ (m + 1) = 0 := by clear hr hb; generalize x / 2 ^ (m + 1) = q at hq b ⊢; omega
      rw [b1] at hr
      obtain ⟨j, hj, h1, h2, hw⟩ := ih (i + 1) (by omega) (by omega)
      refine ⟨j, by omega, h1, h2, fun post hp n hn => ?_⟩
      obtain ⟨n, rfl⟩ : ∃ n', n = n' + 1 := ⟨n - 1, by omega⟩
      have p15 := pw_15 (h := m + 1) (by omega)
      have hs : nI (2 ^ (m + 1)) >>> ((1 : Int32) &&& 31) = nI (2 ^ m) := by
        rw [pk_shrN (by omega) _ 1 (by decide), Nat.pow_succ, Nat.pow_one, Nat.mul_div_cancel _ (by decide)]
      exact br_f (nI_ge (b := 15) (by omega) (by decide)) (br_t (hb.mpr (fun w => b w.2)) (nm_r hs (nm_r (nI_1 i) (hw post hp n (by omega)))))
theorem tb_wp {x : Nat} (h0 : x ≠ 0) (h16 : x < 65536) : ∃ j, j ≤ 15 ∧ 2 ^ j ≤ x ∧ x < 2 ^ (j + 1) ∧ ∀ post : Int32 → Prop, post (nI (2 ^ j)) → wpX_topBit post (cp, sl, th, (nI fc), pc, (lN ep), (fun i => nI (hp_m (H 0 i))), (fun i => nI (H 1 i)), (fun i => nI (H 2 i)), (fun i => nI (H 3 i)), (fun i => nI (H 4 i)), (fun i => nI (H 5 i)), (fun i => nI (H 6 i)), (fun i => lN (H 7 i)), (fun i => nI (H 8 i)), pd, pA, pB, (fun i => nI (rt i)), ca, tk, so, ro, se, ki, ko, vo, ng, nc, st) (nI x) := by
  obtain ⟨j, hj, h1, h2, hw⟩ := tb_l (cp := cp) (sl := sl) (th := th) (pc := pc) (pd := pd) (pA := pA) (pB := pB) (ca := ca) (tk := tk) (so := so) (ro := ro) (se := se) (ki := ki) (ko := ko) (vo := vo) (ng := ng) (nc := nc) (st := st) (ep := ep) (H := H) (rt := rt) (fc := fc) h0 15 0 (by omega) h16
  refine ⟨j, hj, h1, h2, fun post hp => ?_⟩
  unfold wpX_topBit
  exact ⟨16, hw post hp 16 (by omega)⟩
end
end
section
/-! own -/
def ow_O (H : Nat → Nat → Nat) (rt : Nat → Nat) (fc ep e k j p x : Nat) (H' : Nat → Nat → Nat) (rt' : Nat → Nat) (fc' x' : Nat) : Prop :=
  hp_C H' rt' fc' hp_x e ∧ hp_E H' rt' ep ∧ fc ≤ fc' + 1 ∧ hp_u H' x' ∧ H' 7 x' = ep ∧
  (H' 0 x' = H 0 x ∧ H' 1 x' = H 1 x ∧ H' 2 x' = H 2 x ∧ H' 3 x' = H 3 x ∧ H' 4 x' = H 4 x ∧ H' 5 x' = H 5 x) ∧
  (∀ s, s ≠ 0 → rt' s = rt s) ∧ (∀ s, s < 5 → mp_m H' (rt' s) = mp_m H (rt s)) ∧
  (∀ k', hp_d H' (hp_w H' 16 x' k') = hp_d H (hp_w H 16 x k')) ∧ hp_W H' rt' ep k j p x' ∧
  (p ≠ 0 → H' 3 p = H 3 p ∧ H' 3 (H' 4 p) = H 3 (H 4 p) ∧ H' 3 (H' 5 p) = H 3 (H 5 p) ∧ H' 0 p = H 0 p) ∧ (∀ c, hp_S H c → H' 0 c = H 0 c)
/-- cells that the live map doesn't own alone -/
def hp_O (H : Nat → Nat → Nat) (ep c : Nat) : Prop := hp_S H c ∧ (c = 0 ∨ H 7 c ≠ ep)
section
variable {H H' : Nat → Nat → Nat} {rt : Nat → Nat} {fc e ep k j p x : Nat} {X : Nat → Int} {S : Nat → Prop}
theorem hp_TO (C : hp_C H rt fc X e) (hX : ∀ c, 0 ≤ X c) (E : hp_E H rt ep) : hp_T H (hp_O H ep) := by
  have T := hp_CT C hX
  refine ⟨T.1, ⟨T.2.1, Or.inl rfl⟩, fun c hc => ?_⟩
  have h := T.2.2 c hc.1
  refine ⟨h.1, ⟨h.2.1, ?_⟩, ⟨h.2.2.1, ?_⟩, h.2.2.2⟩
  · by_cases z : H 4 c = 0
    · exact Or.inl z
    · rcases hc.2 with h0 | h0
      · rw [h0] at z; exact absurd T.1.2.2.2.1 z
      · exact Or.inr (((E.1 c (hp_Su hc.1 (fun y => z (by rw [y]; exact T.1.2.2.2.1)))).2.1 h0).1 z)
  · by_cases z : H 5 c = 0
    · exact Or.inl z
    · rcases hc.2 with h0 | h0
      · rw [h0] at z; exact absurd T.1.2.2.2.2 z
      · exact Or.inr (((E.1 c (hp_Su hc.1 (fun y => z (by rw [y]; exact T.1.2.2.2.2)))).2.1 h0).2 z)
theorem hp_rO (C : hp_C H rt fc X e) (hX : ∀ c, 0 ≤ X c) (E : hp_E H rt ep) {s : Nat} (h0 : s ≠ 0) (h5 : s < 5) : hp_O H ep (rt s) := by
  refine ⟨hp_rS C hX h5, ?_⟩
  by_cases z : rt s = 0
  · exact Or.inl z
  · exact Or.inr (E.2 s h0 h5 z)
theorem mp_sub (T : hp_T H S) {k k' : Nat} : ∀ (n c : Nat), S c → mp_m H (hp_s H n c k) k' ≠ 0 → mp_m H c k' ≠ 0 := by
  intro n
  induction n with
  | zero => intro c hc h; exact h
  | succ n ih =>
    intro c hc h
    have h1 := ih _ (hp_cS T (k := k) hc) h
    by_cases z : H 0 c = 0
    · rw [(hp_lf T (k := k) hc z).1, mp_0 T] at h1
      exact absurd rfl h1
    · obtain ⟨l, hl⟩ : ∃ l, H 0 c = l + 1 := ⟨H 0 c - 1, by omega⟩
      rw [(mp_a T hc hl k').1]
      rw [hp_c1 hl] at h1
      split at h1
      · omega
      · omega
theorem cn_sub {f g : Nat → Nat} (h : ∀ k, f k ≠ 0 → g k ≠ 0) (n : Nat) : cn_c f n ≤ cn_c g n :=
  sm_mono (fun i _ => by
    by_cases z : f i = 0
    · rw [if_pos z]; exact Nat.zero_le _
    · rw [if_neg z, if_neg (h i z)]; exact Nat.le_refl _)
theorem hp_qm (q : hp_q H H') (c : Nat) : (∀ k, hp_d H' (hp_w H' 16 c k) = hp_d H (hp_w H 16 c k)) ∧ mp_m H' c = mp_m H c := by
  have h := fun k => hp_fr (S := fun _ => True) (H := H) (H' := H') (fun _ _ => ⟨trivial, trivial⟩) (fun c _ => by rw [q.1]) (fun c _ => by rw [q.2.2.2.2.1]) (fun c _ => by rw [q.2.2.2.2.2.1]) (k := k) 16 c trivial
  refine ⟨fun k => ?_, mp_fr (S := fun _ => True) (fun _ _ => ⟨trivial, trivial⟩) (fun c _ => by rw [q.1]) (fun c _ => by rw [q.2.1]) (fun c _ => by rw [q.2.2.1]) (fun c _ => by rw [q.2.2.2.2.1]) (fun c _ => by rw [q.2.2.2.2.2.1]) trivial⟩
  rw [(h k).1]
  unfold hp_d
  rw [q.2.1, q.2.2.1]
/-- the count of a cell on the way that isn't the live map's own -/
theorem ow_24 (C : hp_C H rt fc hp_x e) (E : hp_E H rt ep) (hx : hp_u H x) (hne : H 7 x ≠ ep) (w : hp_W H rt ep k j p x) (he : e = 0 ∨ (e = p ∧ H 7 p = ep)) (b24 : cn_c (mp_m H (rt 0)) 65536 ≤ 24) : H 3 x ≤ 24 := by
  have T := hp_CT C hp_xz
  have TO := hp_TO C hp_xz E
  have h1 := mp_n TO (fun c hc h0 => by
    refine (C.2.1 c (hp_Su hc.1 h0)).2.2.2 ?_
    rcases he with he | he
    · rw [he]; exact h0
    · intro z
      rcases hc.2 with y | y
      · exact h0 y
      · exact y (by rw [z, he.1]; exact he.2)) 16 x (hp_l16 T (hp_uS hx)) ⟨hp_uS hx, Or.inr hne⟩
  rw [h1]
  refine Nat.le_trans (cn_sub (fun k' hk => ?_) 65536) b24
  refine mp_sub T j (rt 0) (hp_rS C hp_xz (by decide)) (k := k) ?_
  rw [w.1]
  exact hk
end
section
variable {cp sl th pc : Int32} {pd pA pB ca tk so ro se ki ko vo ng nc st : Nat → Int32} {H : Nat → Nat → Nat} {rt : Nat → Nat} {fc ep e k j p x : Nat}
theorem ow_wp (C : hp_C H rt fc hp_x e) (E : hp_E H rt ep) (e31 : ep < 2 ^ 31) (f0 : 0 < fc) (w : hp_W H rt ep k j p x) (hx : hp_u H x) (he : e = 0 ∨ e = p) (b24 : cn_c (mp_m H (rt 0)) 65536 ≤ 24) :
    ∃ (H' : Nat → Nat → Nat) (rt' : Nat → Nat) (fc' : Nat) (pd' : Nat → Int32) (x' : Nat), ow_O H rt fc ep e k j p x H' rt' fc' x' ∧
      ∀ post : Int32 → SX → Prop, post (nI x') (cp, sl, th, (nI fc'), pc, (lN ep), (fun i => nI (hp_m (H' 0 i))), (fun i => nI (H' 1 i)), (fun i => nI (H' 2 i)), (fun i => nI (H' 3 i)), (fun i => nI (H' 4 i)), (fun i => nI (H' 5 i)), (fun i => nI (H' 6 i)), (fun i => lN (H' 7 i)), (fun i => nI (H' 8 i)), pd', pA, pB, (fun i => nI (rt' i)), ca, tk, so, ro, se, ki, ko, vo, ng, nc, st) → wpX_own post (cp, sl, th, (nI fc), pc, (lN ep), (fun i => nI (hp_m (H 0 i))), (fun i => nI (H 1 i)), (fun i => nI (H 2 i)), (fun i => nI (H 3 i)), (fun i => nI (H 4 i)), (fun i => nI (H 5 i)), (fun i => nI (H 6 i)), (fun i => lN (H 7 i)), (fun i => nI (H 8 i)), pd, pA, pB, (fun i => nI (rt i)), ca, tk, so, ro, se, ki, ko, vo, ng, nc, st) (nI p) (nI k) (nI x) := by
  have T := hp_CT C hp_xz
  have x7 := (E.1 x hx).1
  have hi : vp_in (nI x) 256 := vp_in_nI hx.2.1 (by decide)
  by_cases hne : H 7 x = ep
  · refine ⟨H, rt, fc, pd, x, ⟨C, E, by omega, hx, hne, ⟨rfl, rfl, rfl, rfl, rfl, rfl⟩, fun _ _ => rfl, fun _ _ => rfl, fun _ => rfl, w, fun _ => ⟨rfl, rfl, rfl, rfl⟩, fun _ _ => rfl⟩, fun post hp => ?_⟩
    unfold wpX_own
    refine ⟨hi, br_t ?_ hp⟩
    show lN (H 7 (nI x).toNatClampNeg) = lN ep
    rw [nI_clamp (by have := hx.2.1; omega), hne]
  · obtain ⟨g, rfl⟩ : ∃ g, fc = g + 1 := ⟨fc - 1, by omega⟩
    obtain ⟨d, hd⟩ : ∃ d, H 8 g = d := ⟨_, rfl⟩
    obtain ⟨F0, F1, F2, hn0, nl, nr⟩ := hp_fd C (hp_xz d) hd
    have g8 : g < 256 := by have := C.2.2.2.2.2.2; omega
    have hP := hp_WP w
    have pe : p ≠ 0 → H 7 p = ep ∧ hp_u H p ∧ H 0 p ≠ 0 := by
      intro z
      rcases w.2 with h | ⟨i, _, _, h1, h2, h3⟩
      · exact absurd h.2 z
      · exact ⟨h2, h1, h3⟩
    have ex : x ≠ e := by
      rcases he with he | he
      · rw [he]; exact hx.1
      · intro z
        rw [he] at z
        exact hne (by rw [z]; exact (pe (by rw [← z]; exact hx.1)).1)
    have p8 : p < 256 := by
      by_cases z : p = 0
      · rw [z]; decide
      · exact (pe z).2.1.2.1
    have xd := nl x hx
    have n24 := ow_24 C E hx hne w (by
      rcases he with he | he
      · exact Or.inl he
      · by_cases z : p = 0
        · exact Or.inl (he.trans z)
        · exact Or.inr ⟨he, (pe z).1⟩) b24
    obtain ⟨Ha, q0, q1, q2, q3, q4, q5, q6, q7, q8⟩ : ∃ Ha : Nat → Nat → Nat, Ha 0 = un_u (H 0) d (H 0 x) ∧ Ha 1 = un_u (H 1) d (H 1 x) ∧ Ha 2 = un_u (H 2) d (H 2 x) ∧ Ha 3 = un_u (H 3) d (H 3 x) ∧ Ha 4 = un_u (H 4) d (H 4 x) ∧ Ha 5 = un_u (H 5) d (H 5 x) ∧
        Ha 6 = un_u (un_u (un_u (H 6) d 1) (H 4 x) (un_u (H 6) d 1 (H 4 x) + 1)) (H 5 x) (un_u (un_u (H 6) d 1) (H 4 x) (un_u (H 6) d 1 (H 4 x) + 1) (H 5 x) + 1) ∧ Ha 7 = un_u (H 7) d ep ∧ Ha 8 = H 8 :=
      ⟨hp_p (un_u (H 0) d (H 0 x)) (un_u (H 1) d (H 1 x)) (un_u (H 2) d (H 2 x)) (un_u (H 3) d (H 3 x)) (un_u (H 4) d (H 4 x)) (un_u (H 5) d (H 5 x)) (un_u (un_u (un_u (H 6) d 1) (H 4 x) (un_u (H 6) d 1 (H 4 x) + 1)) (H 5 x) (un_u (un_u (H 6) d 1) (H 4 x) (un_u (H 6) d 1 (H 4 x) + 1) (H 5 x) + 1)) (un_u (H 7) d ep) (H 8), rfl, rfl, rfl, rfl, rfl, rfl, rfl, rfl, rfl⟩
    have up1 : ∀ (f : Nat → Nat) (y c : Nat), un_u f y (f y + 1) c = f c + ib_b y c := by
      intro f y c
      by_cases z : c = y
      · rw [z, un_s, ib_y rfl]
      · rw [un_n z, ib_z (fun w => z w.symm), Nat.add_zero]
    have n : ow_N H x d ep Ha := ⟨q0, q1, q2, q3, q4, q5, fun c => by rw [q6, up1, up1], q7, q8⟩
    obtain ⟨Ca, Na, Ua⟩ := ow_n C hx ex hd n
    obtain ⟨H1, rt1, R, a, hw1⟩ := rl_wp (cp := cp) (sl := sl) (th := th) (pc := pc) (pd := pd) (pA := pA) (pB := pB) (ca := ca) (tk := tk) (so := so) (ro := ro) (se := se) (ki := ki) (ko := ko) (vo := vo) (ng := ng) (nc := nc) (st := st) (ep := ep) (fc := g) (H := Ha) (rt := rt) (p := p) (k := k) (y := d) p8 (fun z => by
      rw [q0, un_n (nl p (pe z).2.1).1]
      exact ⟨(pe z).2.2, hp_l16 T (hp_uS (pe z).2.1)⟩)
    obtain ⟨C1, N1, cnt⟩ := ow_c C hx ex hd n hP R a
    have W1 := fun k' => ow_w C hx hd n hP R a (k' := k') 16
    obtain ⟨a0, a1, a2, a3, a6, a7, a8⟩ := a
    have e7 : H1 7 = un_u (H 7) d ep := by rw [a7, q7]
    have o45 : ∀ c, c ≠ d → c ≠ p → H1 4 c = H 4 c ∧ H1 5 c = H 5 c := by
      intro c cd cp'
      rcases R with ⟨_, _, r4, r5⟩ | ⟨_, _, R | R⟩
      · rw [r4, r5, q4, q5, un_n cd, un_n cd]; exact ⟨rfl, rfl⟩
      · rw [R.2.1, R.2.2, un_n cp', q4, q5, un_n cd, un_n cd]; exact ⟨rfl, rfl⟩
      · rw [R.2.1, R.2.2, un_n cp', q4, q5, un_n cd, un_n cd]; exact ⟨rfl, rfl⟩
    have d45 : H1 4 d = H 4 x ∧ H1 5 d = H 5 x := by
      rcases R with ⟨_, _, r4, r5⟩ | ⟨pz, _, R⟩
      · rw [r4, r5, q4, q5, un_s, un_s]; exact ⟨rfl, rfl⟩
      · have dp : d ≠ p := fun z => (nl p (pe pz).2.1).1 z.symm
        rcases R with R | R
        · rw [R.2.1, R.2.2, un_n dp, q4, q5, un_s, un_s]; exact ⟨rfl, rfl⟩
        · rw [R.2.1, R.2.2, un_n dp, q4, q5, un_s, un_s]; exact ⟨rfl, rfl⟩
    have u1 : ∀ c, hp_u H1 c → c ≠ d → hp_u H c := by
      intro c hc cd
      refine ⟨hc.1, hc.2.1, fun z => hc.2.2 ?_⟩
      rw [a6]
      exact (Ua c hc.1 cd).mpr z
    have old : ∀ c, hp_u H1 c → H1 7 c ≠ ep → c ≠ d ∧ c ≠ p ∧ hp_u H c ∧ H 7 c ≠ ep := by
      intro c hc h7
      have cd : c ≠ d := by
        intro z
        rw [e7, z, un_s] at h7
        exact h7 rfl
      rw [e7, un_n cd] at h7
      refine ⟨cd, ?_, u1 c hc cd, h7⟩
      intro z
      exact h7 (by rw [z]; exact (pe (by rw [← z]; exact hc.1)).1)
    have ch7 : ∀ c, hp_u H1 c → H1 7 c ≠ ep → (H1 4 c ≠ 0 → H1 7 (H1 4 c) ≠ ep) ∧ (H1 5 c ≠ 0 → H1 7 (H1 5 c) ≠ ep) := by
      intro c hc h7
      obtain ⟨cd, cp', hu, h7'⟩ := old c hc h7
      have h1 := (E.1 c hu).2.1 h7'
      have h2 := nl c hu
      rw [(o45 c cd cp').1, (o45 c cd cp').2, e7, un_n h2.2.1, un_n h2.2.2]
      exact h1
    have QN : re_Q H1 e (fun c => H1 7 c ≠ ep) := by
      intro c hc h7
      obtain ⟨cd, cp', hu, h7'⟩ := old c hc h7
      refine ⟨?_, ch7 c hc h7⟩
      rcases he with he | he
      · rw [he]; exact hc.1
      · rw [he]; exact cp'
    obtain ⟨H', fc', pd', C', q, mo, nq, fl, hw2⟩ := re_wp (cp := cp) (sl := sl) (th := th) (pc := pc) (pd := pd) (pA := pA) (pB := pB) (ca := ca) (tk := tk) (so := so) (ro := ro) (se := se) (ki := ki) (ko := ko) (vo := vo) (ng := ng) (nc := nc) (st := st) (ep := ep) C1 hx.2.1 QN (fun _ => by rw [e7, un_n xd.1]; exact hne) (by rw [a3, q3, un_n xd.1]; omega)
    have rs : ∀ s, s ≠ 0 → rt1 s = rt s := by
      intro s hs
      rcases R with ⟨_, er, _⟩ | ⟨_, er, _⟩
      · rw [er, un_n hs]
      · rw [er]
    have d6 : H1 6 d ≠ 0 := by
      rw [a6, q6, up1, up1, un_s]
      omega
    have hp1 : p ≠ 0 → hp_u H1 p := by
      intro z
      have hu := (pe z).2.1
      refine ⟨z, hu.2.1, fun y => hu.2.2 ?_⟩
      rw [a6] at y
      exact (Ua p z (nl p hu).1).mp y
    refine ⟨H', rt1, fc', pd', d, ⟨C', ?_, by omega, ⟨F0, F1, ?_⟩, ?_, ?_, rs, ?_, ?_, ?_, ?_, ?_⟩, ?_⟩
    · -- epochs
      refine ⟨fun c hc => ?_, fun s s0 s5 hs => ?_⟩
      · have hc1 : hp_u H1 c := ⟨hc.1, hc.2.1, fun z => hc.2.2 (by have := mo c; omega)⟩
        rw [q.2.2.2.2.2.2, q.2.2.2.2.1, q.2.2.2.2.2.1]
        refine ⟨?_, ch7 c hc1, fun h7 => ?_⟩
        · rw [e7]
          by_cases z : c = d
          · rw [z, un_s]; exact Nat.le_refl _
          · rw [un_n z]; exact (E.1 c (u1 c hc1 z)).1
        · have h1 := hp_nm (H := H1) (H' := H') (rt := rt1) (fun j _ z => by have := mo j; omega) q.2.2.2.2.1 q.2.2.2.2.2.1 c
          have h2 := N1 c
          by_cases z : c = d
          · rw [z] at h1 h2 ⊢
            rw [hn0, ib_z xd.2.1, ib_z xd.2.2, ib_y rfl] at h2
            omega
          · have hu := u1 c hc1 z
            rw [e7, un_n z] at h7
            have h3 := (E.1 c hu).2.2 h7
            have h4 := (E.1 x hx).2.1 hne
            have h5 : ib_b (H 4 x) c = 0 := ib_z (fun y => by
              have := h4.1 (by rw [y]; exact hc.1)
              rw [y] at this
              exact this h7)
            have h6 : ib_b (H 5 x) c = 0 := ib_z (fun y => by
              have := h4.2 (by rw [y]; exact hc.1)
              rw [y] at this
              exact this h7)
            rw [h5, h6, ib_z (fun y => z y.symm)] at h2
            omega
      · rw [rs s s0] at hs ⊢
        rw [q.2.2.2.2.2.2, e7, un_n (nr s s5)]
        exact E.2 s s0 s5 hs
    · rw [nq d (fun z => z (by rw [e7, un_s]))]
      exact d6
    · rw [q.2.2.2.2.2.2, e7, un_s]
    · rw [q.1, q.2.1, q.2.2.1, q.2.2.2.1, q.2.2.2.2.1, q.2.2.2.2.2.1, a0, a1, a2, a3, q0, q1, q2, q3, d45.1, d45.2, un_s, un_s, un_s, un_s]
      exact ⟨rfl, rfl, rfl, rfl, rfl, rfl⟩
    · intro s s5
      rw [(hp_qm q _).2]
      have hm : ∀ c, hp_S H c → mp_m H1 c = mp_m H c := by
        intro c hc
        funext k'
        unfold mp_m
        rw [(W1 k').1 c hc]
      by_cases z : s = 0
      · rw [z]
        rcases R with ⟨pz, er, _⟩ | ⟨_, er, _⟩
        · rw [er, un_s]
          rcases hP with ⟨_, hr⟩ | ⟨hu, _⟩
          · rw [hr]
            funext k'
            unfold mp_m
            rw [(W1 k').2]
          · exact absurd pz hu.1
        · rw [er]
          exact hm _ (hp_rS C hp_xz (by decide))
      · rw [rs s z]
        exact hm _ (hp_rS C hp_xz s5)
    · intro k'
      rw [(hp_qm q d).1 k']
      exact (W1 k').2
    · -- the way
      have cE : ∀ c, hp_S H c → c ≠ p → hp_c H' c k = hp_c H c k := by
        intro c hc cp'
        have cd : c ≠ d := by
          intro z
          by_cases c0 : c = 0
          · rw [c0] at z; exact F0 z.symm
          · exact (nl c (hp_Su hc c0)).1 z
        unfold hp_c
        rw [q.1, q.2.2.2.2.1, q.2.2.2.2.2.1, a0, q0, un_n cd, (o45 c cd cp').1, (o45 c cd cp').2]
      rcases w with ⟨w1, ⟨j0, p0⟩ | ⟨i, ji, h2, h3, h4, h5⟩⟩
      · subst j0
        subst p0
        refine ⟨?_, Or.inl ⟨rfl, rfl⟩⟩
        rcases R with ⟨_, er, _⟩ | ⟨z, _⟩
        · show rt1 0 = d
          rw [er, un_s]
        · exact absurd rfl z
      · have pz := h3.1
        have pd' := (nl p h3).1
        have er : rt1 = rt := by
          rcases R with ⟨z, _⟩ | ⟨_, er, _⟩
          · exact absurd z pz
          · exact er
        have hs := hp_sp T pz cE i (rt 0) (hp_rS C hp_xz (by decide)) h2
        have hpe : H' 0 p = H 0 p := by rw [q.1, a0, q0, un_n pd']
        refine ⟨?_, Or.inr ⟨i, ji, ?_, ?_, ?_, ?_⟩⟩
        · rw [ji, hp_sn, er, hs]
          unfold hp_c
          rw [hpe, if_neg h5, q.2.2.2.2.1, q.2.2.2.2.2.1]
          rcases R with ⟨z, _⟩ | ⟨_, _, R⟩
          · exact absurd z pz
          · rw [q0, un_n pd'] at R
            rcases R with R | R
            · rw [if_pos R.1, R.2.1, un_s]
            · rw [if_neg R.1, R.2.1, un_s]
        · rw [er]; exact hs
        · refine ⟨pz, h3.2.1, ?_⟩
          rw [nq p (fun z => z (by rw [e7, un_n pd']; exact h4))]
          exact (hp1 pz).2.2
        · rw [q.2.2.2.2.2.2, e7, un_n pd']; exact h4
        · rw [hpe]; exact h5
    · intro pz
      have h1 := cnt pz
      have pd' := (nl p (pe pz).2.1).1
      rw [q.1, q.2.2.2.1, q.2.2.2.2.1, q.2.2.2.2.2.1, h1.1, h1.2, a3, a0, q3, q0, un_n pd', un_n pd']
      exact ⟨rfl, rfl, rfl, rfl⟩
    · intro c hc
      have cd : c ≠ d := by
        intro z
        by_cases c0 : c = 0
        · rw [c0] at z; exact F0 z.symm
        · exact (nl c (hp_Su hc c0)).1 z
      rw [q.1, a0, q0, un_n cd]
    · intro post hp
      have x8 := hx.2.1
      have l8 := (C.2.1 x hx).2.1
      have r8 := (C.2.1 x hx).2.2.1
      have hid : vp_in (nI d) 256 := vp_in_nI F1 (by decide)
      have hil : vp_in (nI (H 4 x)) 256 := vp_in_nI l8 (by decide)
      have hir : vp_in (nI (H 5 x)) 256 := vp_in_nI r8 (by decide)
      have cx : (nI x).toNatClampNeg = x := nI_clamp (by omega)
      have cd : (nI d).toNatClampNeg = d := nI_clamp (by omega)
      have cl : (nI (H 4 x)).toNatClampNeg = H 4 x := nI_clamp (by omega)
      have cr : (nI (H 5 x)).toNatClampNeg = H 5 x := nI_clamp (by omega)
      unfold wpX_own
      refine ⟨hi, br_f ?_ (al_wp hd F1 g8 ?_)⟩
      · show ¬ lN (H 7 (nI x).toNatClampNeg) = lN ep
        rw [cx]
        exact fun z => hne ((lN_eq (by omega) e31).mp z)
      · refine ⟨hi, hid, nm_r (e' := fun i => nI (hp_m (un_u (H 0) d (H 0 x) i))) ?_ ⟨hi, hid, nm_r (e' := fun i => nI (un_u (H 1) d (H 1 x) i)) ?_ ⟨hi, hid, nm_r (e' := fun i => nI (un_u (H 2) d (H 2 x) i)) ?_ ⟨hi, hid, nm_r (e' := fun i => nI (un_u (H 3) d (H 3 x) i)) ?_ ⟨hi, hid, nm_r (e' := fun i => nI (un_u (H 4) d (H 4 x) i)) ?_ ⟨hi, hid, nm_r (e' := fun i => nI (un_u (H 5) d (H 5 x) i)) ?_ ?_⟩⟩⟩⟩⟩⟩
        · rw [cx, cd]; exact un_M _ _ _
        · rw [cx, cd]; exact un_I _ _ _
        · rw [cx, cd]; exact un_I _ _ _
        · rw [cx, cd]; exact un_I _ _ _
        · rw [cx, cd]; exact un_I _ _ _
        · rw [cx, cd]; exact un_I _ _ _
        · have el : nI (un_u (H 4) d (H 4 x) (nI x).toNatClampNeg) = nI (H 4 x) := by rw [cx, un_n xd.1]
          have er : nI (un_u (H 5) d (H 5 x) (nI x).toNatClampNeg) = nI (H 5 x) := by rw [cx, un_n xd.1]
          dsimp only
          rw [el, er, cl, cr]
          refine ⟨hi, hil, hil, nm_r (e' := fun i => nI (un_u (un_u (H 6) d 1) (H 4 x) (un_u (H 6) d 1 (H 4 x) + 1) i)) ?_ ⟨hi, hir, hir, nm_r (e' := fun i => nI (un_u (un_u (un_u (H 6) d 1) (H 4 x) (un_u (H 6) d 1 (H 4 x) + 1)) (H 5 x) (un_u (un_u (H 6) d 1) (H 4 x) (un_u (H 6) d 1 (H 4 x) + 1) (H 5 x) + 1) i)) ?_ ?_⟩⟩
          · rw [nI_1]; exact un_I _ _ _
          · rw [nI_1]; exact un_I _ _ _
          · have hh := hw1 (fun u => match u with | (f0, f1, f2, f3, f4, f5, b0, b1, b2, b3, b4, b5, b6, b7, b8, b9, b10, b11, b12, b13, b14, b15, b16, b17, b18, b19, b20, b21, b22, b23) => wpX_release (fun u => match u with | (f0, f1, f2, f3, f4, f5, b0, b1, b2, b3, b4, b5, b6, b7, b8, b9, b10, b11, b12, b13, b14, b15, b16, b17, b18, b19, b20, b21, b22, b23) => post (nI d) (f0, f1, f2, f3, f4, f5, b0, b1, b2, b3, b4, b5, b6, b7, b8, b9, b10, b11, b12, b13, b14, b15, b16, b17, b18, b19, b20, b21, b22, b23)) (f0, f1, f2, f3, f4, f5, b0, b1, b2, b3, b4, b5, b6, b7, b8, b9, b10, b11, b12, b13, b14, b15, b16, b17, b18, b19, b20, b21, b22, b23) (nI x)) (hw2 _ hp)
            rw [q0, q1, q2, q3, q4, q5, q6, q7, q8] at hh
            exact hh
end
end
section
/-! overwrite, and rows for the ends of insert and unbind -/
/-- the live map becomes w at k, all else stays -/
def bo_O (H : Nat → Nat → Nat) (rt : Nat → Nat) (ep k w : Nat) (H' : Nat → Nat → Nat) (rt' : Nat → Nat) (fc' : Nat) : Prop :=
  hp_C H' rt' fc' hp_x 0 ∧ hp_E H' rt' ep ∧ (∀ s, s ≠ 0 → rt' s = rt s) ∧ (∀ s, s ≠ 0 → s < 5 → mp_m H' (rt' s) = mp_m H (rt s)) ∧ mp_m H' (rt' 0) = un_u (mp_m H (rt 0)) k w
section
variable {H H' H1 : Nat → Nat → Nat} {rt rt1 : Nat → Nat} {fc e ep k j p x y : Nat} {X : Nat → Int} {S S1 : Nat → Prop}
theorem hp_Ec (E : hp_E H rt ep) (a4 : H' 4 = H 4) (a5 : H' 5 = H 5) (a6 : H' 6 = H 6) (a7 : H' 7 = H 7) : hp_E H' rt ep := by
  refine ⟨fun c hc => ?_, fun s s0 s5 hs => by rw [a7]; exact E.2 s s0 s5 hs⟩
  rw [hp_ns (H := H) (fun j _ _ => by rw [a6]) a4 a5 c, a7, a4, a5]
  exact E.1 c ⟨hc.1, hc.2.1, by rw [← a6]; exact hc.2.2⟩
theorem hp_sc (a0 : H' 0 = H 0) (a4 : H' 4 = H 4) (a5 : H' 5 = H 5) : ∀ (n c k : Nat), hp_s H' n c k = hp_s H n c k := by
  intro n
  induction n with
  | zero => intro c k; rfl
  | succ n ih =>
    intro c k
    show hp_s H' n (hp_c H' c k) k = hp_s H n (hp_c H c k) k
    rw [ih]
    unfold hp_c
    rw [a0, a4, a5]
theorem hp_wc (a0 : H' 0 = H 0) (a4 : H' 4 = H 4) (a5 : H' 5 = H 5) : ∀ (n c k : Nat), hp_w H' n c k = hp_w H n c k := by
  intro n c k
  exact (hp_fr (S := fun _ => True) (H := H) (H' := H') (fun _ _ => ⟨trivial, trivial⟩) (fun c _ => by rw [a0]) (fun c _ => by rw [a4]) (fun c _ => by rw [a5]) n c trivial).1
theorem bo_t {H2 : Nat → Nat → Nat} {rt2 : Nat → Nat} {fc1 w x1 : Nat} (a : ow_O H rt fc ep e k j p x H1 rt1 fc1 x1) {fc2 : Nat} (b : bo_O H1 rt1 ep k w H2 rt2 fc2) : bo_O H rt ep k w H2 rt2 fc2 := by
  obtain ⟨b1, b2, b3, b4, b5⟩ := b
  obtain ⟨_, _, _, _, _, _, a7, a8, _⟩ := a
  refine ⟨b1, b2, fun s hs => (b3 s hs).trans (a7 s hs), fun s s0 s5 => (b4 s s0 s5).trans (a8 s s5), ?_⟩
  rw [b5, a8 0 (by decide)]
/-- a map with one link changed, at a key where nothing is seen of it -/
theorem rm_A (T : hp_T H S) (T1 : hp_T H1 S1) {k' : Nat} (sub : ∀ c, S c → S1 c) (ag : ∀ c, S c → H1 0 c = H 0 c ∧ H1 1 c = H 1 c ∧ H1 2 c = H 2 c)
    (lk : ∀ c, S c → H 0 c ≠ 0 → hp_c H1 c k' = hp_c H c k' ∨ (c = p ∧ hp_c H1 c k' = y ∧ hp_c H c k' = x))
    (hy : p ≠ 0 → (∀ c, S c → H 0 c < H 0 p → mp_m H1 c k' = mp_m H c k') → mp_m H1 y k' = mp_m H x k') : ∀ n c, H 0 c ≤ n → S c → mp_m H1 c k' = mp_m H c k' := by
  have lf : ∀ c, S c → H 0 c = 0 → mp_m H1 c k' = mp_m H c k' := by
    intro c hc z
    by_cases c0 : c = 0
    · rw [c0, mp_0 T, mp_0 T1]
    · have h := ag c hc
      rw [mp_l c0 z, mp_l c0 (by rw [h.1]; exact z), h.2.1, h.2.2]
  intro n
  induction n with
  | zero => intro c hn hc; exact lf c hc (by omega)
  | succ n ih =>
    intro c hn hc
    by_cases z : H 0 c = 0
    · exact lf c hc z
    · rw [mp_s T hc z, mp_s T1 (sub c hc) (by rw [(ag c hc).1]; exact z)]
      obtain ⟨l, hl⟩ : ∃ l, H 0 c = l + 1 := ⟨H 0 c - 1, by omega⟩
      rcases lk c hc z with h | ⟨h1, h2, h3⟩
      · rw [h]
        have h4 := hp_cl T (k := k') hc hl
        exact ih _ (by omega) (hp_cS T hc)
      · rw [h2, h3]
        apply hy (fun y => z (by rw [h1, y]; exact T.1.1))
        intro b hb hlt
        rw [← h1] at hlt
        exact ih b (by omega) hb
theorem rl_s (T : hp_T H S) (w : hp_W H rt ep k j p x) (hr : S (rt 0)) (o : ∀ c, S c → c ≠ p → hp_c H1 c k = hp_c H c k) (pn : p ≠ 0 → hp_c H1 p k = y ∧ rt1 0 = rt 0) (pz : p = 0 → rt1 0 = y) : hp_s H1 j (rt1 0) k = y := by
  rcases w with ⟨w1, ⟨j0, p0⟩ | ⟨i, ji, h2, h3, h4, h5⟩⟩
  · rw [j0]
    exact pz p0
  · have h6 := pn h3.1
    rw [ji, hp_sn, h6.2, hp_sp T h3.1 o i (rt 0) hr h2]
    exact h6.1
theorem hp_Cz {X' : Nat → Int} (C : hp_C H rt fc X e) (h : ∀ c, c ≠ 0 → X c = X' c) : hp_C H rt fc X' e := by
  obtain ⟨c1, c2, c3, c4, c5⟩ := C
  exact ⟨c1, c2, fun c h0 hc => by rw [← h c h0]; exact c3 c h0 hc, c4, c5⟩
theorem mp_c3 (a0 : H' 0 = H 0) (a1 : H' 1 = H 1) (a2 : H' 2 = H 2) (a4 : H' 4 = H 4) (a5 : H' 5 = H 5) (c : Nat) : mp_m H' c = mp_m H c :=
  mp_fr (S := fun _ => True) (fun _ _ => ⟨trivial, trivial⟩) (fun c _ => by rw [a0]) (fun c _ => by rw [a1]) (fun c _ => by rw [a2]) (fun c _ => by rw [a4]) (fun c _ => by rw [a5]) trivial
theorem bo_c {w fc2 : Nat} {H2 : Nat → Nat → Nat} {rt2 : Nat → Nat} (h : ∀ c, mp_m H1 c = mp_m H c) (b : bo_O H1 rt ep k w H2 rt2 fc2) : bo_O H rt ep k w H2 rt2 fc2 := by
  obtain ⟨b1, b2, b3, b4, b5⟩ := b
  exact ⟨b1, b2, b3, fun s s0 s5 => by rw [← h]; exact b4 s s0 s5, by rw [← h]; exact b5⟩
/-- the links behind a relink -/
theorem rl_c {H0 : Nat → Nat → Nat} (P : hp_P H rt p k x) (R : hp_R H0 rt p k y H1 rt1) (g : p ≠ 0 → H0 0 p = H 0 p ∧ H0 4 p = H 4 p ∧ H0 5 p = H 5 p) (a0 : H1 0 = H0 0) {k' c : Nat} (gc : H0 0 c = H 0 c ∧ H0 4 c = H 4 c ∧ H0 5 c = H 5 c) :
    (hp_c H1 c k' = hp_c H c k' ∧ (c = p → c ≠ 0 → k' ≠ k)) ∨ (c = p ∧ c ≠ 0 ∧ hp_c H1 c k' = y ∧ hp_c H c k' = x) := by
  rcases R with ⟨p0, _, r4, r5⟩ | ⟨pz, _, R⟩
  · left
    constructor
    · unfold hp_c
      rw [a0, r4, r5, gc.1, gc.2.1, gc.2.2]
    · intro h1 h2
      exact absurd (h1.trans p0) h2
  · rcases P with ⟨z, _⟩ | ⟨u, lv, P⟩
    · exact absurd z pz
    · by_cases cp : c = p
      · subst cp
        rw [gc.1] at R
        unfold hp_c at P ⊢
        rw [if_neg lv] at P
        rw [a0, gc.1, if_neg lv, if_neg lv]
        rcases R with R | R
        · rw [if_pos R.1] at P
          rw [R.2.1, R.2.2, un_s, gc.2.1]
          by_cases b : k' / 2 ^ (H 0 c - 1) % 2 = 1
          · rw [if_pos b, if_pos b]; exact Or.inr ⟨rfl, pz, rfl, P⟩
          · rw [if_neg b, if_neg b]
            exact Or.inl ⟨rfl, fun _ _ z => b (by rw [z]; exact R.1)⟩
        · rw [if_neg R.1] at P
          rw [R.2.1, R.2.2, un_s, gc.2.2]
          by_cases b : k' / 2 ^ (H 0 c - 1) % 2 = 1
          · rw [if_pos b, if_pos b]
            exact Or.inl ⟨rfl, fun _ _ z => R.1 (by rw [← z]; exact b)⟩
          · rw [if_neg b, if_neg b]; exact Or.inr ⟨rfl, pz, rfl, P⟩
      · left
        refine ⟨?_, fun h => absurd h cp⟩
        unfold hp_c
        rcases R with R | R
        · rw [a0, R.2.1, R.2.2, un_n cp, gc.1, gc.2.1, gc.2.2]
        · rw [a0, R.2.1, R.2.2, un_n cp, gc.1, gc.2.1, gc.2.2]
/-- the value of a leaf of the live map -/
theorem ov_e {c v : Nat} (C : hp_C H rt fc hp_x 0) (E : hp_E H rt ep) (hs : hp_s H j (rt 0) k = c) (hu : hp_u H c) (h7 : H 7 c = ep) (lv : H 0 c = 0) (hk : H 1 c = k) (hv : v < 2147483648)
    (a : H' 0 = H 0 ∧ H' 1 = H 1 ∧ H' 3 = H 3 ∧ H' 4 = H 4 ∧ H' 5 = H 5 ∧ H' 6 = H 6 ∧ H' 7 = H 7 ∧ H' 8 = H 8) (o : H' 2 = un_u (H 2) c v) : bo_O H rt ep k (v + 1) H' rt fc := by
  obtain ⟨a0, a1, a3, a4, a5, a6, a7, a8⟩ := a
  have C' := cv_val C hv ⟨a0, a1, a3, a4, a5, a6, a8⟩ o
  have T' := hp_CT C' hp_xz
  have TO := hp_TO C hp_xz E
  refine ⟨C', hp_Ec E a4 a5 a6 a7, fun _ _ => rfl, fun s s0 s5 => ?_, ?_⟩
  · refine mp_fr (S := hp_O H ep) (fun b hb => ⟨(TO.2.2 b hb).2.1, (TO.2.2 b hb).2.2.1⟩) (fun b _ => by rw [a0]) (fun b _ => by rw [a1]) (fun b hb => ?_) (fun b _ => by rw [a4]) (fun b _ => by rw [a5]) (hp_rO C hp_xz E s0 s5)
    rw [o]
    apply un_n
    intro z
    rcases hb.2 with h | h
    · rw [z] at h; exact hu.1 h
    · rw [z] at h; exact h h7
  · funext k'
    by_cases z : k' = k
    · rw [z, un_s]
      have h1 := mp_sm T' (n := j) (c := rt 0) (k := k) (hp_rS C' hp_xz (by decide)) (by rw [hp_sc a0 a4 a5, hs]; exact hu.1)
      rw [h1, hp_sc a0 a4 a5, hs, mp_l hu.1 (by rw [a0]; exact lv), a1, if_pos hk, o, un_s]
    · rw [un_n z]
      unfold mp_m hp_d
      rw [hp_wc a0 a4 a5, a1]
      by_cases b : H 1 (hp_w H 16 (rt 0) k') = k'
      · have h2 : hp_w H 16 (rt 0) k' ≠ c := by
          intro y
          rw [y, hk] at b
          exact z b.symm
        rw [o, un_n h2]
      · dsimp only
        rw [if_neg b, if_neg b]
end
section
variable {cp sl th pc : Int32} {pd pA pB ca tk so ro se ki ko vo ng nc st : Nat → Int32} {ep k v : Nat}
theorem ov_l (hv : v < 2147483648) (e31 : ep < 2 ^ 31) : ∀ (m j c fc : Nat) (H : Nat → Nat → Nat) (rt : Nat → Nat) (pd : Nat → Int32), m + j = 16 → H 0 c ≤ m → hp_C H rt fc hp_x 0 → hp_E H rt ep → hp_s H j (rt 0) k = c → hp_u H c → H 7 c = ep → H 1 (hp_w H 16 c k) = k → 19 ≤ fc + j → cn_c (mp_m H (rt 0)) 65536 ≤ 24 →
    ∃ (H' : Nat → Nat → Nat) (rt' : Nat → Nat) (fc' : Nat) (pd' : Nat → Int32), bo_O H rt ep k (v + 1) H' rt' fc' ∧
      ∀ post : SX → Prop, post (cp, sl, th, (nI fc'), pc, (lN ep), (fun i => nI (hp_m (H' 0 i))), (fun i => nI (H' 1 i)), (fun i => nI (H' 2 i)), (fun i => nI (H' 3 i)), (fun i => nI (H' 4 i)), (fun i => nI (H' 5 i)), (fun i => nI (H' 6 i)), (fun i => lN (H' 7 i)), (fun i => nI (H' 8 i)), pd', pA, pB, (fun i => nI (rt' i)), ca, tk, so, ro, se, ki, ko, vo, ng, nc, st) → ∀ n, m < n → wX_overwrite_16 post (nI k) (nI v) n (nI c) (nI j) cp sl th (nI fc) pc (lN ep) (fun i => nI (hp_m (H 0 i))) (fun i => nI (H 1 i)) (fun i => nI (H 2 i)) (fun i => nI (H 3 i)) (fun i => nI (H 4 i)) (fun i => nI (H 5 i)) (fun i => nI (H 6 i)) (fun i => lN (H 7 i)) (fun i => nI (H 8 i)) pd pA pB (fun i => nI (rt i)) ca tk so ro se ki ko vo ng nc st := by
  intro m
  induction m with
  | zero =>
    intro j c fc H rt pd hj hl C E hs hu h7 hk hf b24
    have lv : H 0 c = 0 := by omega
    rw [hp_w0 lv] at hk
    have hi : vp_in (nI c) 256 := vp_in_nI hu.2.1 (by decide)
    refine ⟨hp_p (H 0) (H 1) (un_u (H 2) c v) (H 3) (H 4) (H 5) (H 6) (H 7) (H 8), rt, fc, pd, ov_e C E hs hu h7 lv hk hv ⟨rfl, rfl, rfl, rfl, rfl, rfl, rfl, rfl⟩ rfl, fun post hp n hn => ?_⟩
    obtain ⟨n, rfl⟩ : ∃ n', n = n' + 1 := ⟨n - 1, by omega⟩
    refine br_t (nI_le (a := 16) (by omega) (by omega)) ⟨hi, nm_r (e' := fun i => nI (un_u (H 2) c v i)) ?_ hp⟩
    rw [nI_clamp (by have := hu.2.1; omega)]
    exact un_I _ _ v
  | succ m ih =>
    intro j c fc H rt pd hj hl C E hs hu h7 hk hf b24
    have T := hp_CT C hp_xz
    have hi : vp_in (nI c) 256 := vp_in_nI hu.2.1 (by decide)
    have c8 := hu.2.1
    have l16 := hp_l16 T (hp_uS hu)
    have lm := hp_mb l16
    by_cases lv : H 0 c = 0
    · rw [hp_w0 lv] at hk
      refine ⟨hp_p (H 0) (H 1) (un_u (H 2) c v) (H 3) (H 4) (H 5) (H 6) (H 7) (H 8), rt, fc, pd, ov_e C E hs hu h7 lv hk hv ⟨rfl, rfl, rfl, rfl, rfl, rfl, rfl, rfl⟩ rfl, fun post hp n hn => ?_⟩
      obtain ⟨n, rfl⟩ : ∃ n', n = n' + 1 := ⟨n - 1, by omega⟩
      refine br_f (nI_ge (b := 16) (by omega) (by decide)) ⟨hi, br_t ?_ ⟨hi, nm_r (e' := fun i => nI (un_u (H 2) c v i)) ?_ hp⟩⟩
      · show nI (hp_m (H 0 (nI c).toNatClampNeg)) = 0
        rw [nI_clamp (by omega), lv]
        rfl
      · rw [nI_clamp (by omega)]
        exact un_I _ _ v
    · obtain ⟨l, hl2⟩ : ∃ l, H 0 c = l + 1 := ⟨H 0 c - 1, by omega⟩
      have h1 := hp_cl T (k := k) (hp_uS hu) hl2
      have w : hp_W H rt ep k (j + 1) c (hp_c H c k) := ⟨by rw [hp_sn, hs], Or.inr ⟨j, rfl, hs, hu, h7, lv⟩⟩
      have hux : hp_u H (hp_c H c k) := hp_Su (hp_cS T (hp_uS hu)) h1.2
      obtain ⟨H1, rt1, fc1, pd1, x1, O, hw⟩ := ow_wp (cp := cp) (sl := sl) (th := th) (pc := pc) (pd := pd) (pA := pA) (pB := pB) (ca := ca) (tk := tk) (so := so) (ro := ro) (se := se) (ki := ki) (ko := ko) (vo := vo) (ng := ng) (nc := nc) (st := st) C E e31 (by omega) w hux (Or.inl rfl) b24
      have O' := O
      obtain ⟨o1, o2, o3, o4, o5, o6, o7, o8, o9, o10, o11⟩ := O'
      have hk1 : H1 1 (hp_w H1 16 x1 k) = k := by
        have h2 := congrArg Prod.fst (o9 k)
        rw [hp_w16 T (hp_uS hu) lv] at hk
        exact h2.trans hk
      obtain ⟨H', rt', fc', pd', B, hw2⟩ := ih (j + 1) x1 fc1 H1 rt1 pd1 (by omega) (by rw [o6.1]; omega) o1 o2 o10.1 o4 o5 hk1 (by omega) (by rw [o8 0 (by decide)]; exact b24)
      refine ⟨H', rt', fc', pd', bo_t O B, fun post hp n hn => ?_⟩
      obtain ⟨n, rfl⟩ : ∃ n', n = n' + 1 := ⟨n - 1, by omega⟩
      refine br_f (nI_ge (b := 16) (by omega) (by decide)) ⟨hi, br_f ?_ (ch_wp c8 l16 (hw _ (nm_r (nI_1 j) (hw2 post hp n (by omega)))))⟩
      show ¬ nI (hp_m (H 0 (nI c).toNatClampNeg)) = 0
      rw [nI_clamp (by omega)]
      exact nI_ne0 (by have := hp_m0 (l := H 0 c); omega) (by omega)
theorem ov_wp {H : Nat → Nat → Nat} {rt : Nat → Nat} {fc : Nat} (hv : v < 2147483648) (e31 : ep < 2 ^ 31) (C : hp_C H rt fc hp_x 0) (E : hp_E H rt ep) (h0 : rt 0 ≠ 0) (hk : H 1 (hp_w H 16 (rt 0) k) = k) (hf : 20 ≤ fc) (b24 : cn_c (mp_m H (rt 0)) 65536 ≤ 24) :
    ∃ (H' : Nat → Nat → Nat) (rt' : Nat → Nat) (fc' : Nat) (pd' : Nat → Int32), bo_O H rt ep k (v + 1) H' rt' fc' ∧
      ∀ post : SX → Prop, post (cp, sl, th, (nI fc'), pc, (lN ep), (fun i => nI (hp_m (H' 0 i))), (fun i => nI (H' 1 i)), (fun i => nI (H' 2 i)), (fun i => nI (H' 3 i)), (fun i => nI (H' 4 i)), (fun i => nI (H' 5 i)), (fun i => nI (H' 6 i)), (fun i => lN (H' 7 i)), (fun i => nI (H' 8 i)), pd', pA, pB, (fun i => nI (rt' i)), ca, tk, so, ro, se, ki, ko, vo, ng, nc, st) → wpX_overwrite post (cp, sl, th, (nI fc), pc, (lN ep), (fun i => nI (hp_m (H 0 i))), (fun i => nI (H 1 i)), (fun i => nI (H 2 i)), (fun i => nI (H 3 i)), (fun i => nI (H 4 i)), (fun i => nI (H 5 i)), (fun i => nI (H 6 i)), (fun i => lN (H 7 i)), (fun i => nI (H 8 i)), pd, pA, pB, (fun i => nI (rt i)), ca, tk, so, ro, se, ki, ko, vo, ng, nc, st) (nI k) (nI v) := by
  have hu := hp_ru C hp_xz (s := 0) (by decide) h0
  have w : hp_W H rt ep k 0 0 (rt 0) := ⟨rfl, Or.inl ⟨rfl, rfl⟩⟩
  obtain ⟨H1, rt1, fc1, pd1, x1, O, hw⟩ := ow_wp (cp := cp) (sl := sl) (th := th) (pc := pc) (pd := pd) (pA := pA) (pB := pB) (ca := ca) (tk := tk) (so := so) (ro := ro) (se := se) (ki := ki) (ko := ko) (vo := vo) (ng := ng) (nc := nc) (st := st) C E e31 (by omega) w hu (Or.inl rfl) b24
  have O' := O
  obtain ⟨o1, o2, o3, o4, o5, o6, o7, o8, o9, o10, o11⟩ := O'
  have hk1 : H1 1 (hp_w H1 16 x1 k) = k := (congrArg Prod.fst (o9 k)).trans hk
  obtain ⟨H', rt', fc', pd', B, hw2⟩ := ov_l (cp := cp) (sl := sl) (th := th) (pc := pc) (pA := pA) (pB := pB) (ca := ca) (tk := tk) (so := so) (ro := ro) (se := se) (ki := ki) (ko := ko) (vo := vo) (ng := ng) (nc := nc) (st := st) hv e31 16 0 x1 fc1 H1 rt1 pd1 (by omega) (hp_l16 (hp_CT o1 hp_xz) (hp_uS o4)) o1 o2 o10.1 o4 o5 hk1 (by omega) (by rw [o8 0 (by decide)]; exact b24)
  refine ⟨H', rt', fc', pd', bo_t O B, fun post hp => ?_⟩
  unfold wpX_overwrite
  exact hw _ ⟨17, hw2 post hp 17 (by omega)⟩
end
end
section
/-! insert -/
section
variable {H Hb Hc H1 : Nat → Nat → Nat} {rt rt1 : Nat → Nat} {g ep k j p x b v d1 d2 L Rr nk : Nat}
theorem in_e (C : hp_C H rt (g + 2) hp_x p) (ho : p ≠ 0 → H 3 p = H 3 (H 4 p) + H 3 (H 5 p) + 1) (E : hp_E H rt ep) (w : hp_W H rt ep k j p x) (hx : hp_u H x)
    (hb : b ≤ 15) (hnk : H 1 (hp_w H 16 x k) = nk) (t1 : nk / 2 ^ (b + 1) = k / 2 ^ (b + 1)) (t2 : nk / 2 ^ b % 2 ≠ k / 2 ^ b % 2) (lx : H 0 x ≤ b + 1) (lp : p ≠ 0 → b + 2 ≤ H 0 p)
    (hk : k < 65536) (hv : v < 2147483648) (hd1 : H 8 (g + 1) = d1) (hd2 : H 8 g = d2)
    (hLR : (k / 2 ^ b % 2 = 1 ∧ L = x ∧ Rr = d1) ∨ (¬ k / 2 ^ b % 2 = 1 ∧ L = d1 ∧ Rr = x))
    (nb : Hb 0 = un_u (H 0) d1 0 ∧ Hb 1 = un_u (H 1) d1 k ∧ Hb 2 = un_u (H 2) d1 v ∧ Hb 3 = un_u (H 3) d1 1 ∧ Hb 4 = un_u (H 4) d1 0 ∧ Hb 5 = un_u (H 5) d1 0 ∧ Hb 6 = un_u (H 6) d1 1 ∧ Hb 7 = un_u (H 7) d1 ep ∧ Hb 8 = H 8)
    (nc : Hc 0 = un_u (Hb 0) d2 (b + 1) ∧ Hc 1 = un_u (Hb 1) d2 (k / 2 ^ (b + 1) * 2 ^ (b + 1)) ∧ Hc 2 = un_u (Hb 2) d2 0 ∧ Hc 3 = un_u (Hb 3) d2 (H 3 x + 1) ∧ Hc 4 = un_u (Hb 4) d2 L ∧ Hc 5 = un_u (Hb 5) d2 Rr ∧ Hc 6 = un_u (Hb 6) d2 1 ∧ Hc 7 = un_u (Hb 7) d2 ep ∧ Hc 8 = H 8)
    (R : hp_R Hc rt p k d2 H1 rt1) (a : H1 0 = Hc 0 ∧ H1 1 = Hc 1 ∧ H1 2 = Hc 2 ∧ H1 3 = Hc 3 ∧ H1 6 = Hc 6 ∧ H1 7 = Hc 7 ∧ H1 8 = Hc 8) :
    bo_O H rt ep k (v + 1) H1 rt1 g := by
  obtain ⟨m0, m1, m2, m3, m4, m5, m6, m7, m8⟩ := nb
  obtain ⟨n0, n1, n2, n3, n4, n5, n6, n7, n8⟩ := nc
  obtain ⟨a0, a1, a2, a3, a6, a7, a8⟩ := a
  have T := hp_CT C hp_xz
  -- the leaf
  obtain ⟨F0, F1, F2, hn1, nl1, nr1⟩ := hp_fd C (hp_xz d1) hd1
  have o1 : ∀ c, c ≠ d1 → Hb 0 c = H 0 c ∧ Hb 1 c = H 1 c ∧ Hb 2 c = H 2 c ∧ Hb 3 c = H 3 c ∧ Hb 4 c = H 4 c ∧ Hb 5 c = H 5 c ∧ Hb 6 c = H 6 c := by
    intro c hc
    rw [m0, m1, m2, m3, m4, m5, m6, un_n hc, un_n hc, un_n hc, un_n hc, un_n hc, un_n hc, un_n hc]
    exact ⟨rfl, rfl, rfl, rfl, rfl, rfl, rfl⟩
  have b4 : Hb 4 d1 = 0 := by rw [m4, un_s]
  have b5 : Hb 5 d1 = 0 := by rw [m5, un_s]
  have b0 : Hb 0 d1 = 0 := by rw [m0, un_s]
  have G1 : hp_G Hb p d1 := by
    refine ⟨⟨?_, ?_, ?_, ?_, ?_, ?_⟩, ?_, ?_, ?_⟩
    · rw [b0]; omega
    · rw [m1, un_s]; exact hk
    · rw [b0]; exact Nat.mod_one _
    · rw [m2, un_s]; exact hv
    · intro _; exact ⟨b4, b5⟩
    · intro h hh; rw [b0] at hh; omega
    · rw [b4]; decide
    · rw [b5]; decide
    · intro _
      unfold hp_N
      rw [b0, if_pos rfl, m3, un_s]
  obtain ⟨C1, _, _, N1⟩ := cv_new C hd1 (hp_xz d1) o1 (by rw [m6, un_s]) m8 G1 (by rw [b4]; exact fun z => F0 z.symm) (by rw [b5]; exact fun z => F0 z.symm)
  rw [b4, b5] at C1
  have C1' : hp_C Hb rt (g + 1) (fun c => ib_b d1 c) p := hp_Cz C1 (fun c c0 => by
    have : ib_b 0 c = 0 := ib_z (fun z => c0 z.symm)
    rw [this, hp_x0]; omega)
  -- the fork
  have hd2b : Hb 8 g = d2 := by rw [m8]; exact hd2
  obtain ⟨K0, K1, K2, hn2, nl2, nr2⟩ := hp_fd C1' (by omega) hd2b
  have ub : ∀ c, hp_u H c → hp_u Hb c := fun c hc => ⟨hc.1, hc.2.1, by rw [(o1 c (nl1 c hc).1).2.2.2.2.2.2]; exact hc.2.2⟩
  have d12 : d1 ≠ d2 := (nl2 d1 ⟨F0, F1, by rw [m6, un_s]; decide⟩).1
  have ne : ∀ c, hp_S H c → c ≠ d1 ∧ c ≠ d2 := by
    intro c hc
    by_cases c0 : c = 0
    · rw [c0]; exact ⟨fun z => F0 z.symm, fun z => K0 z.symm⟩
    · have hu := hp_Su hc c0
      exact ⟨(nl1 c hu).1, (nl2 c (ub c hu)).1⟩
  have nch : ∀ c, hp_u H c → (H 4 c ≠ d1 ∧ H 4 c ≠ d2) ∧ (H 5 c ≠ d1 ∧ H 5 c ≠ d2) := fun c hc => ⟨ne _ (T.2.2 c (hp_uS hc)).2.1, ne _ (T.2.2 c (hp_uS hc)).2.2.1⟩
  have o2 : ∀ c, c ≠ d2 → Hc 0 c = Hb 0 c ∧ Hc 1 c = Hb 1 c ∧ Hc 2 c = Hb 2 c ∧ Hc 3 c = Hb 3 c ∧ Hc 4 c = Hb 4 c ∧ Hc 5 c = Hb 5 c ∧ Hc 6 c = Hb 6 c := by
    intro c hc
    rw [n0, n1, n2, n3, n4, n5, n6, un_n hc, un_n hc, un_n hc, un_n hc, un_n hc, un_n hc, un_n hc]
    exact ⟨rfl, rfl, rfl, rfl, rfl, rfl, rfl⟩
  have o3 : ∀ c, hp_S H c → Hc 0 c = H 0 c ∧ Hc 1 c = H 1 c ∧ Hc 2 c = H 2 c ∧ Hc 3 c = H 3 c ∧ Hc 4 c = H 4 c ∧ Hc 5 c = H 5 c ∧ Hc 6 c = H 6 c := by
    intro c hc
    have h1 := ne c hc
    have h2 := o1 c h1.1
    have h3 := o2 c h1.2
    exact ⟨h3.1.trans h2.1, h3.2.1.trans h2.2.1, h3.2.2.1.trans h2.2.2.1, h3.2.2.2.1.trans h2.2.2.2.1, h3.2.2.2.2.1.trans h2.2.2.2.2.1, h3.2.2.2.2.2.1.trans h2.2.2.2.2.2.1, h3.2.2.2.2.2.2.trans h2.2.2.2.2.2.2⟩
  have o7 : ∀ c, hp_S H c → H1 7 c = H 7 c := by
    intro c hc
    have h1 := ne c hc
    rw [a7, n7, un_n h1.2, m7, un_n h1.1]
  have sx := hp_uS hx
  have ox := o3 x sx
  -- levels and ranges
  have wr := hp_wr T (k := k) 16 x (hp_l16 T sx) sx hx.1
  rw [hnk] at wr
  have lxb : H 0 x ≤ b := by
    apply Classical.byContradiction
    intro z
    have e1 : H 0 x = b + 1 := by omega
    have h1 := hp_wd T (k := k) sx e1
    rw [hnk] at h1
    have h2 := (hp_ev T sx e1).1
    omega
  have xb : nk / 2 ^ b = H 1 x / 2 ^ b := pw_le lxb wr
  have fk0 : k / 2 ^ (b + 1) * 2 ^ (b + 1) / 2 ^ (b + 1) = k / 2 ^ (b + 1) := Nat.mul_div_cancel _ (pw_p _)
  have fkb : k / 2 ^ (b + 1) * 2 ^ (b + 1) / 2 ^ b = k / 2 ^ (b + 1) * 2 := by
    rw [Nat.pow_succ 2 b, Nat.mul_comm (2 ^ b) 2, ← Nat.mul_assoc]
    rw [Nat.mul_div_cancel _ (pw_p _)]
  have kb : k / 2 ^ b = k / 2 ^ (b + 1) * 2 + k / 2 ^ b % 2 := by
    have := pw_s k b
    omega
  have nb' : nk / 2 ^ b = k / 2 ^ (b + 1) * 2 + nk / 2 ^ b % 2 := by
    have := pw_s nk b
    omega
  have c0 : Hc 0 d2 = b + 1 := by rw [n0, un_s]
  have c1 : Hc 1 d2 = k / 2 ^ (b + 1) * 2 ^ (b + 1) := by rw [n1, un_s]
  have c3 : Hc 3 d2 = H 3 x + 1 := by rw [n3, un_s]
  have c4 : Hc 4 d2 = L := by rw [n4, un_s]
  have c5 : Hc 5 d2 = Rr := by rw [n5, un_s]
  have l0 : Hc 0 d1 = 0 := by rw [(o2 d1 d12).1, b0]
  have l1 : Hc 1 d1 = k := by rw [(o2 d1 d12).2.1, m1, un_s]
  have l2 : Hc 2 d1 = v := by rw [(o2 d1 d12).2.2.1, m2, un_s]
  have l3 : Hc 3 d1 = 1 := by rw [(o2 d1 d12).2.2.2.1, m3, un_s]
  have x2 := (ne x sx).2
  have G2 : hp_G Hc p d2 := by
    refine ⟨⟨?_, ?_, ?_, ?_, ?_, ?_⟩, ?_, ?_, ?_⟩
    · rw [c0]; omega
    · rw [c1]; exact Nat.lt_of_le_of_lt (Nat.div_mul_le_self _ _) hk
    · rw [c0, c1]; exact Nat.mul_mod_left _ _
    · rw [n2, un_s]; decide
    · intro z; rw [c0] at z; omega
    · intro h hh
      rw [c0] at hh
      have hbh : h = b := by omega
      subst hbh
      rw [c4, c5, c1, fkb]
      rcases hLR with ⟨h1, h2, h3⟩ | ⟨h1, h2, h3⟩
      · rw [h2, h3, ox.1, ox.2.1, l0, l1]
        exact ⟨hx.1, F0, lxb, by omega, by rw [← xb]; omega, by omega⟩
      · rw [h2, h3, ox.1, ox.2.1, l0, l1]
        exact ⟨F0, hx.1, by omega, lxb, by omega, by rw [← xb]; omega⟩
    · rw [c4]
      rcases hLR with ⟨h1, h2, h3⟩ | ⟨h1, h2, h3⟩
      · rw [h2]; exact hx.2.1
      · rw [h2]; exact F1
    · rw [c5]
      rcases hLR with ⟨h1, h2, h3⟩ | ⟨h1, h2, h3⟩
      · rw [h3]; exact F1
      · rw [h3]; exact hx.2.1
    · intro _
      unfold hp_N
      rw [c0, c3, c4, c5, if_neg (by omega)]
      rcases hLR with ⟨h1, h2, h3⟩ | ⟨h1, h2, h3⟩
      · rw [h2, h3, ox.2.2.2.1, l3]
      · rw [h2, h3, ox.2.2.2.1, l3, Nat.add_comm]
  have L2 : L ≠ d2 := by
    rcases hLR with ⟨h1, h2, h3⟩ | ⟨h1, h2, h3⟩
    · rw [h2]; exact x2
    · rw [h2]; exact d12
  have R2 : Rr ≠ d2 := by
    rcases hLR with ⟨h1, h2, h3⟩ | ⟨h1, h2, h3⟩
    · rw [h3]; exact d12
    · rw [h3]; exact x2
  have sLR : ∀ c, ib_b L c + ib_b Rr c = ib_b x c + ib_b d1 c := by
    intro c
    rcases hLR with ⟨h1, h2, h3⟩ | ⟨h1, h2, h3⟩
    · rw [h2, h3]
    · rw [h2, h3, Nat.add_comm]
  obtain ⟨C2, _, _, N2⟩ := cv_new C1' hd2b (by omega) o2 (by rw [n6, un_s]) (n8.trans m8.symm) G2 (by rw [c4]; exact L2) (by rw [c5]; exact R2)
  rw [c4, c5] at C2
  have pe : p ≠ 0 → H 7 p = ep ∧ hp_u H p ∧ H 0 p ≠ 0 := by
    intro z
    rcases w.2 with h | ⟨i, _, _, h1, h2, h3⟩
    · exact absurd h.2 z
    · exact ⟨h2, h1, h3⟩
  have hP := hp_WP w
  have P1 : hp_P Hc rt p k x := by
    rcases hP with P | ⟨u, lv, P⟩
    · exact Or.inl P
    · have h1 := o3 p (hp_uS u)
      refine Or.inr ⟨⟨u.1, u.2.1, by rw [h1.2.2.2.2.2.2]; exact u.2.2⟩, by rw [h1.1]; exact lv, ?_⟩
      unfold hp_c at P ⊢
      rw [h1.1, h1.2.2.2.2.1, h1.2.2.2.2.2.1]
      exact P
  have dp : p ≠ d1 ∧ p ≠ d2 := by
    by_cases z : p = 0
    · rw [z]; exact ⟨fun z => F0 z.symm, fun z => K0 z.symm⟩
    · exact ne p (hp_uS (pe z).2.1)
  have C3 : hp_C H1 rt1 g hp_x 0 := by
    refine hp_Cx (cv_rel (e' := 0) C2 P1 R ⟨a0, a1, a2, a3, a6, a8⟩ K1 ?_ ?_ (fun c h _ => h)) (fun c => by
      have := sLR c
      rw [hp_x0]; omega)
    · intro pz
      have hpu := (pe pz).2.1
      have h1 := o3 p (hp_uS hpu)
      have h2 := lp pz
      rw [c0, c1, h1.1, ox.2.1]
      refine ⟨K0, by omega, ?_⟩
      have h3 : nk / 2 ^ (H 0 p - 1) = H 1 x / 2 ^ (H 0 p - 1) := pw_le (by omega) wr
      rw [← h3]
      exact pw_le (a := b + 1) (by omega) (fk0.trans t1.symm)
    · intro pz _
      have hpu := (pe pz).2.1
      have h1 := o3 p (hp_uS hpu)
      have h2 := ho pz
      have h3 := (T.2.2 p (hp_uS hpu))
      have h4 := o3 _ h3.2.1
      have h5 := o3 _ h3.2.2.1
      unfold hp_N
      rw [a0, a3, h1.1, h1.2.2.2.1, if_neg (pe pz).2.2]
      rcases hP with ⟨z, _⟩ | ⟨u, lv, P⟩
      · exact absurd z pz
      · unfold hp_c at P
        rw [if_neg lv] at P
        rcases R with ⟨z, _⟩ | ⟨_, _, R⟩
        · exact absurd z pz
        · rw [h1.1] at R
          rcases R with R | R
          · rw [if_pos R.1] at P
            rw [R.2.1, R.2.2, un_s, h1.2.2.2.2.1, h4.2.2.2.1, c3]
            rw [P] at h2
            omega
          · rw [if_neg R.1] at P
            rw [R.2.1, R.2.2, un_s, h1.2.2.2.2.2.1, h5.2.2.2.1, c3]
            rw [P] at h2
            omega
  have T1 := hp_CT C3 hp_xz
  have o45 : ∀ c, c ≠ p → H1 4 c = Hc 4 c ∧ H1 5 c = Hc 5 c := by
    intro c hc
    rcases R with ⟨_, _, r4, r5⟩ | ⟨_, _, R | R⟩
    · rw [r4, r5]; exact ⟨rfl, rfl⟩
    · rw [R.2.1, R.2.2, un_n hc]; exact ⟨rfl, rfl⟩
    · rw [R.2.1, R.2.2, un_n hc]; exact ⟨rfl, rfl⟩
  have rs : ∀ s, s ≠ 0 → rt1 s = rt s := by
    intro s hs
    rcases R with ⟨_, er, _⟩ | ⟨_, er, _⟩
    · rw [er, un_n hs]
    · rw [er]
  have s1 : ∀ c, hp_S H c → hp_S H1 c := by
    intro c hc
    refine ⟨hc.1, ?_⟩
    rw [a6, (o3 c hc).2.2.2.2.2.2]
    exact hc.2
  have su1 : hp_S H1 d1 := ⟨F1, Or.inr (by rw [a6, (o2 d1 d12).2.2.2.2.2.2, m6, un_s]; decide)⟩
  have su2 : hp_S H1 d2 := ⟨K1, Or.inr (by rw [a6, n6, un_s]; decide)⟩
  have u1 : ∀ c, hp_u H1 c → c = d1 ∨ c = d2 ∨ hp_u H c := by
    intro c hc
    by_cases z1 : c = d1
    · exact Or.inl z1
    · by_cases z2 : c = d2
      · exact Or.inr (Or.inl z2)
      · right; right
        refine ⟨hc.1, hc.2.1, ?_⟩
        have := hc.2.2
        rw [a6, (o2 c z2).2.2.2.2.2.2, (o1 c z1).2.2.2.2.2.2] at this
        exact this
  have k1 : H1 7 d1 = ep := by rw [a7, n7, un_n d12, m7, un_s]
  have k2 : H1 7 d2 = ep := by rw [a7, n7, un_s]
  have TO := hp_TO C hp_xz E
  have dd2 : H1 4 d2 = L ∧ H1 5 d2 = Rr := by
    have h1 := o45 d2 (fun z => dp.2 z.symm)
    rw [h1.1, h1.2, c4, c5]
    exact ⟨rfl, rfl⟩
  have fork : ∀ k', mp_m H1 d2 k' = mp_m H1 x k' + mp_m H1 d1 k' := by
    intro k'
    rw [(mp_a T1 su2 (l := b) (by rw [a0, c0]) k').1, dd2.1, dd2.2]
    rcases hLR with ⟨h1, h2, h3⟩ | ⟨h1, h2, h3⟩
    · rw [h2, h3]
    · rw [h2, h3, Nat.add_comm]
  have leaf : ∀ k', mp_m H1 d1 k' = if k = k' then v + 1 else 0 := by
    intro k'
    rw [mp_l F0 (by rw [a0]; exact l0), a1, a2, l1, l2]
  have gp : p ≠ 0 → Hc 0 p = H 0 p ∧ Hc 4 p = H 4 p ∧ Hc 5 p = H 5 p := by
    intro z
    have h1 := o3 p (hp_uS (pe z).2.1)
    exact ⟨h1.1, h1.2.2.2.2.1, h1.2.2.2.2.2.1⟩
  have lks := fun (k' c : Nat) (hc : hp_S H c) => rl_c hP R gp a0 (k' := k') (c := c) ⟨(o3 c hc).1, (o3 c hc).2.2.2.2.1, (o3 c hc).2.2.2.2.2.1⟩
  refine ⟨C3, ⟨fun c hc => ?_, fun s s0 s5 hs => ?_⟩, rs, fun s s0 s5 => ?_, ?_⟩
  · -- epochs
    refine ⟨?_, ?_, ?_⟩
    · rcases u1 c hc with z | z | z
      · rw [z, k1]; exact Nat.le_refl _
      · rw [z, k2]; exact Nat.le_refl _
      · rw [o7 c (hp_uS z)]; exact (E.1 c z).1
    · intro h7
      rcases u1 c hc with z | z | z
      · rw [z] at h7; exact absurd k1 h7
      · rw [z] at h7; exact absurd k2 h7
      · rw [o7 c (hp_uS z)] at h7
        have cp : c ≠ p := fun y => h7 (by rw [y]; exact (pe (by rw [← y]; exact z.1)).1)
        have h8 := o3 c (hp_uS z)
        rw [(o45 c cp).1, (o45 c cp).2, h8.2.2.2.2.1, h8.2.2.2.2.2.1, o7 _ (T.2.2 c (hp_uS z)).2.1, o7 _ (T.2.2 c (hp_uS z)).2.2.1]
        exact (E.1 c z).2.1 h7
    · intro h7
      have q1 := hp_rn P1 R a6 c
      have q2 := N2 c
      have q3 := N1 c
      rw [c4, c5] at q2
      rw [b4, b5, ib_z (fun z => hc.1 z.symm)] at q3
      have q4 := sLR c
      rcases u1 c hc with z | z | z
      · rw [z] at q1 q2 q3 q4 ⊢
        rw [hn1] at q3
        rw [ib_y (a := d1) rfl] at q4
        rw [ib_z (fun y => d12 y.symm)] at q1
        omega
      · rw [z] at q1 q2 q3 q4 ⊢
        rw [hn2] at q3
        rw [hn2, ib_z L2, ib_z R2] at q2
        rw [ib_y (a := d2) rfl] at q1
        omega
      · have h9 := nl1 c z
        have h10 := nl2 c (ub c z)
        rw [o7 c (hp_uS z)] at h7
        have := (E.1 c z).2.2 h7
        rw [ib_z (fun y => h9.1 y.symm)] at q4
        rw [ib_z (fun y => h10.1 y.symm)] at q1
        omega
  · rw [rs s s0] at hs ⊢
    rw [o7 _ (hp_rS C hp_xz s5)]
    exact E.2 s s0 s5 hs
  · rw [rs s s0]
    have cO : ∀ c, hp_O H ep c → H1 4 c = Hc 4 c ∧ H1 5 c = Hc 5 c := by
      intro c hc
      by_cases z : p = 0
      · rcases R with ⟨_, _, r4, r5⟩ | ⟨pz, _⟩
        · rw [r4, r5]; exact ⟨rfl, rfl⟩
        · exact absurd z pz
      · apply o45
        intro y
        rcases hc.2 with h | h
        · exact z (y ▸ h)
        · exact h (by rw [y]; exact (pe z).1)
    refine mp_fr (S := hp_O H ep) (fun c hc => ⟨(TO.2.2 c hc).2.1, (TO.2.2 c hc).2.2.1⟩) (fun c hc => by rw [a0]; exact (o3 c hc.1).1) (fun c hc => by rw [a1]; exact (o3 c hc.1).2.1) (fun c hc => by rw [a2]; exact (o3 c hc.1).2.2.1) (fun c hc => ?_) (fun c hc => ?_) (hp_rO C hp_xz E s0 s5)
    · rw [(cO c hc).1]; exact (o3 c hc.1).2.2.2.2.1
    · rw [(cO c hc).2]; exact (o3 c hc.1).2.2.2.2.2.1
  · funext k'
    by_cases z : k' = k
    · subst z
      rw [un_s]
      have hs := rl_s (rt1 := rt1) (y := d2) T w (hp_rS C hp_xz (by decide)) (fun c hc cp => by
        rcases lks k' c hc with h | h
        · exact h.1
        · exact absurd h.1 cp) (fun pz => by
        constructor
        · rcases lks k' p (hp_uS (pe pz).2.1) with h | h
          · exact absurd rfl (h.2 rfl pz)
          · exact h.2.2.1
        · rcases R with ⟨y, _⟩ | ⟨_, er, _⟩
          · exact absurd y pz
          · rw [er]) (fun pz => by
        rcases R with ⟨_, er, _⟩ | ⟨y, _⟩
        · rw [er, un_s]
        · exact absurd pz y)
      rw [mp_sm T1 (n := j) (c := rt1 0) (k := k') (hp_rS C3 hp_xz (by decide)) (by rw [hs]; exact K0), hs, fork, leaf, if_pos rfl]
      have hz : mp_m H1 x k' = 0 := by
        apply Classical.byContradiction
        intro y
        have h1 := mp_r T1 (s1 x sx) hx.1 y
        rw [a0, a1, ox.1, ox.2.1] at h1
        have h2 := pw_le lxb h1
        omega
      omega
    · rw [un_n z]
      have A := rm_A (p := p) (y := d2) (x := x) T T1 (k' := k') s1 (fun c hc => by
        rw [a0, a1, a2]
        exact ⟨(o3 c hc).1, (o3 c hc).2.1, (o3 c hc).2.2.1⟩) (fun c hc _ => by
        rcases lks k' c hc with h | h
        · exact Or.inl h.1
        · exact Or.inr ⟨h.1, h.2.2⟩) (fun pz IH => by
        rw [fork, leaf, if_neg (fun y => z y.symm), Nat.add_zero]
        exact IH x sx (by have := lp pz; omega))
      have h1 := A 16 x (hp_l16 T sx) sx
      rcases R with ⟨p0, er, _⟩ | ⟨pz, er, _⟩
      · rw [er, un_s, fork, leaf, if_neg (fun y => z y.symm), Nat.add_zero, h1]
        rcases hP with ⟨_, hr⟩ | ⟨hu, _⟩
        · rw [hr]
        · exact absurd p0 hu.1
      · rw [er]
        exact A 16 (rt 0) (hp_l16 T (hp_rS C hp_xz (by decide))) (hp_rS C hp_xz (by decide))
end
end
section
/-! insert: the walk -/
section
variable {cp sl th pc : Int32} {pd pA pB ca tk so ro se ki ko vo ng nc st : Nat → Int32} {ep k v b nk : Nat}
theorem in_f {H : Nat → Nat → Nat} {rt : Nat → Nat} {fc j p x : Nat} (C : hp_C H rt fc hp_x p) (ho : p ≠ 0 → H 3 p = H 3 (H 4 p) + H 3 (H 5 p) + 1) (E : hp_E H rt ep) (w : hp_W H rt ep k j p x) (hx : hp_u H x)
    (hb : b ≤ 15) (hnk : H 1 (hp_w H 16 x k) = nk) (t1 : nk / 2 ^ (b + 1) = k / 2 ^ (b + 1)) (t2 : nk / 2 ^ b % 2 ≠ k / 2 ^ b % 2) (lx : H 0 x ≤ b + 1) (lp : p ≠ 0 → b + 2 ≤ H 0 p)
    (hk : k < 65536) (hv : v < 2147483648) (f2 : 2 ≤ fc) :
    ∃ (H' : Nat → Nat → Nat) (rt' : Nat → Nat) (fc' : Nat) (pd' : Nat → Int32), bo_O H rt ep k (v + 1) H' rt' fc' ∧
      ∀ post : SX → Prop, post (cp, sl, th, (nI fc'), pc, (lN ep), (fun i => nI (hp_m (H' 0 i))), (fun i => nI (H' 1 i)), (fun i => nI (H' 2 i)), (fun i => nI (H' 3 i)), (fun i => nI (H' 4 i)), (fun i => nI (H' 5 i)), (fun i => nI (H' 6 i)), (fun i => lN (H' 7 i)), (fun i => nI (H' 8 i)), pd', pA, pB, (fun i => nI (rt' i)), ca, tk, so, ro, se, ki, ko, vo, ng, nc, st) → wX_insert_69 post (nI k) (nI v) (nI (2 ^ b)) (nI p) (nI x) cp sl th (nI fc) pc (lN ep) (fun i => nI (hp_m (H 0 i))) (fun i => nI (H 1 i)) (fun i => nI (H 2 i)) (fun i => nI (H 3 i)) (fun i => nI (H 4 i)) (fun i => nI (H 5 i)) (fun i => nI (H 6 i)) (fun i => lN (H 7 i)) (fun i => nI (H 8 i)) pd pA pB (fun i => nI (rt i)) ca tk so ro se ki ko vo ng nc st := by
  obtain ⟨g, rfl⟩ : ∃ g, fc = g + 2 := ⟨fc - 2, by omega⟩
  obtain ⟨d1, hd1⟩ : ∃ d, H 8 (g + 1) = d := ⟨_, rfl⟩
  obtain ⟨d2, hd2⟩ : ∃ d, H 8 g = d := ⟨_, rfl⟩
  have T := hp_CT C hp_xz
  have f8 := C.2.2.2.2.2.2
  have D1 := C.2.2.2.2.1 (g + 1) (by omega)
  have D2 := C.2.2.2.2.1 g (by omega)
  have D12 := C.2.2.2.2.2.1 g (g + 1) (by omega) (by omega)
  rw [hd1] at D1
  rw [hd2] at D2
  rw [hd1, hd2] at D12
  have x8 := hx.2.1
  have xd1 : x ≠ d1 := fun z => hx.2.2 (by rw [z]; exact D1.2.2)
  have xd2 : x ≠ d2 := fun z => hx.2.2 (by rw [z]; exact D2.2.2)
  have pe : p ≠ 0 → hp_u H p ∧ H 0 p ≠ 0 := by
    intro z
    rcases w.2 with h | ⟨i, _, _, h1, h2, h3⟩
    · exact absurd h.2 z
    · exact ⟨h1, h3⟩
  have p8 : p < 256 := by
    by_cases z : p = 0
    · rw [z]; decide
    · exact (pe z).1.2.1
  have pd1 : p ≠ 0 → p ≠ d1 := fun pz z => (pe pz).1.2.2 (by rw [z]; exact D1.2.2)
  have pd2 : p ≠ 0 → p ≠ d2 := fun pz z => (pe pz).1.2.2 (by rw [z]; exact D2.2.2)
  have i1 : vp_in (nI d1) 256 := vp_in_nI D1.2.1 (by decide)
  have i2 : vp_in (nI d2) 256 := vp_in_nI D2.2.1 (by decide)
  have ix : vp_in (nI x) 256 := vp_in_nI x8 (by decide)
  have c1 : (nI d1).toNatClampNeg = d1 := nI_clamp (by omega)
  have c2 : (nI d2).toNatClampNeg = d2 := nI_clamp (by omega)
  have cx : (nI x).toNatClampNeg = x := nI_clamp (by omega)
  have kb : (nI k &&& nI (2 ^ b)) = 0 ↔ ¬ (b + 1 ≠ 0 ∧ k / 2 ^ b % 2 = 1) := bt_0 (l := b + 1) (by omega)
  have h3 : (fun i => nI (un_u (H 3) d1 1 i)) (nI x).toNatClampNeg + 1 = nI (H 3 x + 1) := by
    show nI (un_u (H 3) d1 1 (nI x).toNatClampNeg) + 1 = _
    rw [cx, un_n xd1, nI_1]
  let Hb := hp_p (un_u (H 0) d1 0) (un_u (H 1) d1 k) (un_u (H 2) d1 v) (un_u (H 3) d1 1) (un_u (H 4) d1 0) (un_u (H 5) d1 0) (un_u (H 6) d1 1) (un_u (H 7) d1 ep) (H 8)
  by_cases bit : k / 2 ^ b % 2 = 1
  · obtain ⟨Hc, q⟩ : ∃ Hc : Nat → Nat → Nat, Hc = hp_p (un_u (Hb 0) d2 (b + 1)) (un_u (Hb 1) d2 (k / 2 ^ (b + 1) * 2 ^ (b + 1))) (un_u (Hb 2) d2 0) (un_u (Hb 3) d2 (H 3 x + 1)) (un_u (Hb 4) d2 x) (un_u (Hb 5) d2 d1) (un_u (Hb 6) d2 1) (un_u (Hb 7) d2 ep) (H 8) := ⟨_, rfl⟩
    have hc0 : p ≠ 0 → Hc 0 p = H 0 p := by
      intro z
      rw [q]
      show un_u (un_u (H 0) d1 0) d2 (b + 1) p = _
      rw [un_n (pd2 z), un_n (pd1 z)]
    obtain ⟨H1, rt1, R, a, hw⟩ := rl_wp (cp := cp) (sl := sl) (th := th) (pc := pc) (pd := pd) (pA := pA) (pB := pB) (ca := ca) (tk := tk) (so := so) (ro := ro) (se := se) (ki := ki) (ko := ko) (vo := vo) (ng := ng) (nc := nc) (st := st) (ep := ep) (fc := g) (H := Hc) (rt := rt) (p := p) (k := k) (y := d2) p8 (fun z => by
      rw [hc0 z]
      exact ⟨(pe z).2, hp_l16 T (hp_uS (pe z).1)⟩)
    refine ⟨H1, rt1, g, pd, in_e (Hb := Hb) (Hc := Hc) C ho E w hx hb hnk t1 t2 lx lp hk hv hd1 hd2 (Or.inl ⟨bit, rfl, rfl⟩) ⟨rfl, rfl, rfl, rfl, rfl, rfl, rfl, rfl, rfl⟩ (by rw [q]; exact ⟨rfl, rfl, rfl, rfl, rfl, rfl, rfl, rfl, rfl⟩) R a, fun post hp => ?_⟩
    have hh := hw post hp
    rw [q] at hh
    unfold wX_insert_69
    refine nf_wp hd1 D1.2.1 (by omega) (al_wp (H := Hb) hd2 D2.2.1 (by omega) (br_f (fun z => kb.mp z ⟨by omega, bit⟩) ?_))
    unfold wX_insert_94
    refine ⟨i2, nm_r (e' := fun i => nI (hp_m (un_u (Hb 0) d2 (b + 1) i))) ?_ ⟨i2, nm_r (e' := fun i => nI (un_u (Hb 1) d2 (k / 2 ^ (b + 1) * 2 ^ (b + 1)) i)) ?_ ⟨i2, nm_r (e' := fun i => nI (un_u (Hb 2) d2 0 i)) ?_ ⟨ix, i2, nm_r (e' := fun i => nI (un_u (Hb 3) d2 (H 3 x + 1) i)) ?_ (br_f (by decide) ?_)⟩⟩⟩⟩
    · rw [c2]; exact un_M _ _ (b + 1)
    · rw [c2, bt_cut hk hb]; exact un_I _ _ _
    · rw [c2]; exact un_I _ _ 0
    · rw [c2]
      refine Eq.trans ?_ (un_I _ _ (H 3 x + 1))
      exact congrArg _ h3
    · unfold wX_insert_162
      refine ⟨i2, nm_r (e' := fun i => nI (un_u (Hb 4) d2 x i)) ?_ (br_f (by decide) ?_)⟩
      · rw [c2]; exact un_I _ _ x
      · unfold wX_insert_181
        refine ⟨i2, nm_r (e' := fun i => nI (un_u (Hb 5) d2 d1 i)) ?_ hh⟩
        rw [c2]; exact un_I _ _ d1
  · obtain ⟨Hc, q⟩ : ∃ Hc : Nat → Nat → Nat, Hc = hp_p (un_u (Hb 0) d2 (b + 1)) (un_u (Hb 1) d2 (k / 2 ^ (b + 1) * 2 ^ (b + 1))) (un_u (Hb 2) d2 0) (un_u (Hb 3) d2 (H 3 x + 1)) (un_u (Hb 4) d2 d1) (un_u (Hb 5) d2 x) (un_u (Hb 6) d2 1) (un_u (Hb 7) d2 ep) (H 8) := ⟨_, rfl⟩
    have hc0 : p ≠ 0 → Hc 0 p = H 0 p := by
      intro z
      rw [q]
      show un_u (un_u (H 0) d1 0) d2 (b + 1) p = _
      rw [un_n (pd2 z), un_n (pd1 z)]
    obtain ⟨H1, rt1, R, a, hw⟩ := rl_wp (cp := cp) (sl := sl) (th := th) (pc := pc) (pd := pd) (pA := pA) (pB := pB) (ca := ca) (tk := tk) (so := so) (ro := ro) (se := se) (ki := ki) (ko := ko) (vo := vo) (ng := ng) (nc := nc) (st := st) (ep := ep) (fc := g) (H := Hc) (rt := rt) (p := p) (k := k) (y := d2) p8 (fun z => by
      rw [hc0 z]
      exact ⟨(pe z).2, hp_l16 T (hp_uS (pe z).1)⟩)
    refine ⟨H1, rt1, g, pd, in_e (Hb := Hb) (Hc := Hc) C ho E w hx hb hnk t1 t2 lx lp hk hv hd1 hd2 (Or.inr ⟨bit, rfl, rfl⟩) ⟨rfl, rfl, rfl, rfl, rfl, rfl, rfl, rfl, rfl⟩ (by rw [q]; exact ⟨rfl, rfl, rfl, rfl, rfl, rfl, rfl, rfl, rfl⟩) R a, fun post hp => ?_⟩
    have hh := hw post hp
    rw [q] at hh
    unfold wX_insert_69
    refine nf_wp hd1 D1.2.1 (by omega) (al_wp (H := Hb) hd2 D2.2.1 (by omega) (br_t (kb.mpr (fun z => bit z.2)) ?_))
    unfold wX_insert_94
    refine ⟨i2, nm_r (e' := fun i => nI (hp_m (un_u (Hb 0) d2 (b + 1) i))) ?_ ⟨i2, nm_r (e' := fun i => nI (un_u (Hb 1) d2 (k / 2 ^ (b + 1) * 2 ^ (b + 1)) i)) ?_ ⟨i2, nm_r (e' := fun i => nI (un_u (Hb 2) d2 0 i)) ?_ ⟨ix, i2, nm_r (e' := fun i => nI (un_u (Hb 3) d2 (H 3 x + 1) i)) ?_ (br_t rfl ?_)⟩⟩⟩⟩
    · rw [c2]; exact un_M _ _ (b + 1)
    · rw [c2, bt_cut hk hb]; exact un_I _ _ _
    · rw [c2]; exact un_I _ _ 0
    · rw [c2]
      refine Eq.trans ?_ (un_I _ _ (H 3 x + 1))
      exact congrArg _ h3
    · unfold wX_insert_162
      refine ⟨i2, nm_r (e' := fun i => nI (un_u (Hb 4) d2 d1 i)) ?_ (br_t rfl ?_)⟩
      · rw [c2]; exact un_I _ _ d1
      · unfold wX_insert_181
        refine ⟨i2, nm_r (e' := fun i => nI (un_u (Hb 5) d2 x i)) ?_ hh⟩
        rw [c2]; exact un_I _ _ x
/-- the unique link to a cell of the live map's own -/
theorem hp_uq {H : Nat → Nat → Nat} {rt : Nat → Nat} {j p x : Nat} (E : hp_E H rt ep) (w : hp_W H rt ep k j p x) (hx : hp_u H x) (h7 : H 7 x = ep) : ∀ d, hp_u H d → d ≠ p → H 4 d ≠ x ∧ H 5 d ≠ x := by
  intro d hd dp
  have h1 := (E.1 x hx).2.2 h7
  rcases hp_WP w with ⟨p0, hr⟩ | ⟨u, lv, P⟩
  · exact hp_oner h1 (s := 0) (by decide) hr hd
  · refine hp_one h1 u ?_ hd dp
    unfold hp_c at P
    rw [if_neg lv] at P
    split at P
    · exact Or.inr P
    · exact Or.inl P
theorem in_l (hv : v < 2147483648) (e31 : ep < 2 ^ 31) (hb : b ≤ 15) (t1 : nk / 2 ^ (b + 1) = k / 2 ^ (b + 1)) (t2 : nk / 2 ^ b % 2 ≠ k / 2 ^ b % 2) (hk : k < 65536) :
    ∀ (m j p x fc : Nat) (H : Nat → Nat → Nat) (rt : Nat → Nat) (pd : Nat → Int32), m + j = 16 → H 0 x ≤ m → hp_C H rt fc hp_x p → (p ≠ 0 → H 3 p = H 3 (H 4 p) + H 3 (H 5 p) + 1) → hp_E H rt ep → hp_W H rt ep k j p x → hp_u H x → H 1 (hp_w H 16 x k) = nk → (p ≠ 0 → b + 2 ≤ H 0 p) → 20 ≤ fc + j → cn_c (mp_m H (rt 0)) 65536 ≤ 24 →
    ∃ (H' : Nat → Nat → Nat) (rt' : Nat → Nat) (fc' : Nat) (pd' : Nat → Int32), bo_O H rt ep k (v + 1) H' rt' fc' ∧
      ∀ post : SX → Prop, post (cp, sl, th, (nI fc'), pc, (lN ep), (fun i => nI (hp_m (H' 0 i))), (fun i => nI (H' 1 i)), (fun i => nI (H' 2 i)), (fun i => nI (H' 3 i)), (fun i => nI (H' 4 i)), (fun i => nI (H' 5 i)), (fun i => nI (H' 6 i)), (fun i => lN (H' 7 i)), (fun i => nI (H' 8 i)), pd', pA, pB, (fun i => nI (rt' i)), ca, tk, so, ro, se, ki, ko, vo, ng, nc, st) → ∀ n, m < n → wX_insert_14 post (nI k) (nI v) (nI (2 ^ b)) n (nI p) (nI x) (nI j) cp sl th (nI fc) pc (lN ep) (fun i => nI (hp_m (H 0 i))) (fun i => nI (H 1 i)) (fun i => nI (H 2 i)) (fun i => nI (H 3 i)) (fun i => nI (H 4 i)) (fun i => nI (H 5 i)) (fun i => nI (H 6 i)) (fun i => lN (H 7 i)) (fun i => nI (H 8 i)) pd pA pB (fun i => nI (rt i)) ca tk so ro se ki ko vo ng nc st := by
  intro m
  induction m with
  | zero =>
    intro j p x fc H rt pd hj hl C ho E w hx hnk lp hf b24
    obtain ⟨H', rt', fc', pd', B, hw⟩ := in_f (cp := cp) (sl := sl) (th := th) (pc := pc) (pd := pd) (pA := pA) (pB := pB) (ca := ca) (tk := tk) (so := so) (ro := ro) (se := se) (ki := ki) (ko := ko) (vo := vo) (ng := ng) (nc := nc) (st := st) C ho E w hx hb hnk t1 t2 (by omega) lp hk hv (by omega)
    refine ⟨H', rt', fc', pd', B, fun post hp n hn => ?_⟩
    obtain ⟨n, rfl⟩ : ∃ n', n = n' + 1 := ⟨n - 1, by omega⟩
    exact br_t (nI_le (a := 16) (by omega) (by omega)) (hw post hp)
  | succ m ih =>
    intro j p x fc H rt pd hj hl C ho E w hx hnk lp hf b24
    have T := hp_CT C hp_xz
    have x8 := hx.2.1
    have ix : vp_in (nI x) 256 := vp_in_nI x8 (by decide)
    have l16 := hp_l16 T (hp_uS hx)
    have lm := hp_mb l16
    have p15 := pw_15 hb
    have mle : hp_m (H 0 x) ≤ 2 ^ b ↔ H 0 x ≤ b + 1 := hp_mle (a := H 0 x) (b := b + 1)
    by_cases lx : H 0 x ≤ b + 1
    · obtain ⟨H', rt', fc', pd', B, hw⟩ := in_f (cp := cp) (sl := sl) (th := th) (pc := pc) (pd := pd) (pA := pA) (pB := pB) (ca := ca) (tk := tk) (so := so) (ro := ro) (se := se) (ki := ki) (ko := ko) (vo := vo) (ng := ng) (nc := nc) (st := st) C ho E w hx hb hnk t1 t2 lx lp hk hv (by omega)
      refine ⟨H', rt', fc', pd', B, fun post hp n hn => ?_⟩
      obtain ⟨n, rfl⟩ : ∃ n', n = n' + 1 := ⟨n - 1, by omega⟩
      refine br_f (nI_ge (b := 16) (by omega) (by decide)) ⟨ix, br_t ?_ (hw post hp)⟩
      show nI (hp_m (H 0 (nI x).toNatClampNeg)) ≤ nI (2 ^ b)
      rw [nI_clamp (by omega)]
      exact nI_le (mle.mpr lx) (by omega)
    · obtain ⟨H1, rt1, fc1, pd1, x1, O, hw⟩ := ow_wp (cp := cp) (sl := sl) (th := th) (pc := pc) (pd := pd) (pA := pA) (pB := pB) (ca := ca) (tk := tk) (so := so) (ro := ro) (se := se) (ki := ki) (ko := ko) (vo := vo) (ng := ng) (nc := nc) (st := st) C E e31 (by omega) w hx (Or.inr rfl) b24
      have O' := O
      obtain ⟨o1, o2, o3, o4, o5, o6, o7, o8, o9, o10, o11⟩ := O'
      have T1 := hp_CT o1 hp_xz
      have lv1 : H1 0 x1 ≠ 0 := by rw [o6.1]; omega
      obtain ⟨l, hl1⟩ : ∃ l, H1 0 x1 = l + 1 := ⟨H1 0 x1 - 1, by omega⟩
      have cl1 := hp_cl T1 (k := k) (hp_uS o4) hl1
      have x18 := o4.2.1
      have x1p : x1 ≠ p := by
        intro z
        rcases hp_WP o10 with ⟨p0, _⟩ | ⟨u, lv, P⟩
        · exact o4.1 (z.trans p0)
        · obtain ⟨l2, hl2⟩ : ∃ l, H1 0 p = l + 1 := ⟨H1 0 p - 1, by omega⟩
          have h1 := hp_cl T1 (k := k) (hp_uS u) hl2
          rw [P, z] at h1
          omega
      have g1 := (o1.2.1 x1 o4)
      have g2 := g1.1.2.2.2.2.2 l hl1
      have ne4 : H1 4 x1 ≠ x1 := fun z => by rw [z] at g2; omega
      have ne5 : H1 5 x1 ≠ x1 := fun z => by rw [z] at g2; omega
      obtain ⟨H2, q⟩ : ∃ H2 : Nat → Nat → Nat, H2 = hp_p (H1 0) (H1 1) (H1 2) (un_u (H1 3) x1 (H1 3 x1 + 1)) (H1 4) (H1 5) (H1 6) (H1 7) (H1 8) := ⟨_, rfl⟩
      have q0 : H2 0 = H1 0 := by rw [q]; rfl
      have q1 : H2 1 = H1 1 := by rw [q]; rfl
      have q2 : H2 2 = H1 2 := by rw [q]; rfl
      have q3 : H2 3 = un_u (H1 3) x1 (H1 3 x1 + 1) := by rw [q]; rfl
      have q4 : H2 4 = H1 4 := by rw [q]; rfl
      have q5 : H2 5 = H1 5 := by rw [q]; rfl
      have q6 : H2 6 = H1 6 := by rw [q]; rfl
      have q7 : H2 7 = H1 7 := by rw [q]; rfl
      have q8 : H2 8 = H1 8 := by rw [q]; rfl
      have C2 : hp_C H2 rt1 fc1 hp_x x1 := by
        refine cv_cnt (p := p) o1 o4 ⟨q0, q1, q2, q4, q5, q6, q8⟩ (fun c hc => by rw [q3, un_n hc]) (hp_uq o2 o10 o4 o5) (fun hu _ => ?_) (fun c h1 _ => h1)
        have oo := o11.1 hu.1
        have hh := ho hu.1
        rcases hp_WP o10 with ⟨p0, _⟩ | ⟨u, lv, P⟩
        · exact absurd p0 hu.1
        · obtain ⟨l2, hl2⟩ : ∃ l, H1 0 p = l + 1 := ⟨H1 0 p - 1, by omega⟩
          have g3 := (o1.2.1 p hu).1.2.2.2.2.2 l2 hl2
          have ne : H1 4 p ≠ H1 5 p := fun z => by rw [z] at g3; omega
          unfold hp_N
          rw [q0, q3, q4, q5, if_neg lv, un_n (fun z => x1p z.symm), oo.1, hh, ← oo.2.1, ← oo.2.2.1]
          rw [hp_c1 hl2] at P
          split at P
          · rw [P, un_s, un_n (by rw [← P]; exact ne)]; omega
          · rw [P, un_s, un_n (by rw [← P]; exact fun z => ne z.symm)]; omega
      have hole : H2 3 x1 = H2 3 (H2 4 x1) + H2 3 (H2 5 x1) + 1 := by
        have h1 := g1.2.2.2 x1p
        unfold hp_N at h1
        rw [if_neg lv1] at h1
        rw [q3, q4, q5, un_s, un_n ne4, un_n ne5, h1]
      have E2 : hp_E H2 rt1 ep := hp_Ec o2 q4 q5 q6 q7
      have cc : hp_c H2 x1 k = hp_c H1 x1 k := by unfold hp_c; rw [q0, q4, q5]
      have u2 : ∀ c, hp_u H1 c → hp_u H2 c := fun c hc => ⟨hc.1, hc.2.1, by rw [q6]; exact hc.2.2⟩
      have w2 : hp_W H2 rt1 ep k (j + 1) x1 (hp_c H2 x1 k) := by
        have h1 : hp_s H2 j (rt1 0) k = x1 := by rw [hp_sc q0 q4 q5]; exact o10.1
        exact ⟨by rw [hp_sn, h1], Or.inr ⟨j, rfl, h1, u2 x1 o4, by rw [q7]; exact o5, by rw [q0]; exact lv1⟩⟩
      have hu2 : hp_u H2 (hp_c H2 x1 k) := by rw [cc]; exact u2 _ (hp_Su (hp_cS T1 (hp_uS o4)) cl1.2)
      have hk2 : H2 1 (hp_w H2 16 (hp_c H2 x1 k) k) = nk := by
        rw [cc, q1, hp_wc q0 q4 q5, ← hp_w16 T1 (hp_uS o4) lv1]
        exact (congrArg Prod.fst (o9 k)).trans hnk
      have mm : ∀ c, mp_m H2 c = mp_m H1 c := mp_c3 q0 q1 q2 q4 q5
      obtain ⟨H', rt', fc', pd', B, hw2⟩ := ih (j + 1) x1 (hp_c H2 x1 k) fc1 H2 rt1 pd1 (by omega) (by rw [cc, q0]; have := o6.1; omega) C2 (fun _ => hole) E2 w2 hu2 hk2 (fun _ => by rw [q0, o6.1]; omega) (by omega) (by rw [mm, o8 0 (by decide)]; exact b24)
      refine ⟨H', rt', fc', pd', bo_t O (bo_c mm B), fun post hp n hn => ?_⟩
      obtain ⟨n, rfl⟩ : ∃ n', n = n' + 1 := ⟨n - 1, by omega⟩
      have ix1 : vp_in (nI x1) 256 := vp_in_nI x18 (by decide)
      refine br_f (nI_ge (b := 16) (by omega) (by decide)) ⟨ix, br_f ?_ (hw _ ⟨ix1, ix1, nm_r (e' := fun i => nI (un_u (H1 3) x1 (H1 3 x1 + 1) i)) ?_ ?_⟩)⟩
      · show ¬ nI (hp_m (H 0 (nI x).toNatClampNeg)) ≤ nI (2 ^ b)
        rw [nI_clamp (by omega)]
        exact nI_ge (by omega) (by omega)
      · rw [nI_clamp (by omega), nI_1]
        exact un_I _ _ _
      · have hh := hw2 post hp n (by omega)
        rw [q] at hh
        refine ch_wp (H := hp_p (H1 0) (H1 1) (H1 2) (un_u (H1 3) x1 (H1 3 x1 + 1)) (H1 4) (H1 5) (H1 6) (H1 7) (H1 8)) x18 (by have := hp_l16 T1 (hp_uS o4); exact this) (nm_r (nI_1 j) hh)
theorem in_wp {H : Nat → Nat → Nat} {rt : Nat → Nat} {fc : Nat} (hv : v < 2147483648) (e31 : ep < 2 ^ 31) (hb : b ≤ 15) (C : hp_C H rt fc hp_x 0) (E : hp_E H rt ep) (h0 : rt 0 ≠ 0) (hnk : H 1 (hp_w H 16 (rt 0) k) = nk) (t1 : nk / 2 ^ (b + 1) = k / 2 ^ (b + 1)) (t2 : nk / 2 ^ b % 2 ≠ k / 2 ^ b % 2) (hk : k < 65536) (hf : 20 ≤ fc) (b24 : cn_c (mp_m H (rt 0)) 65536 ≤ 24) :
    ∃ (H' : Nat → Nat → Nat) (rt' : Nat → Nat) (fc' : Nat) (pd' : Nat → Int32), bo_O H rt ep k (v + 1) H' rt' fc' ∧
      ∀ post : SX → Prop, post (cp, sl, th, (nI fc'), pc, (lN ep), (fun i => nI (hp_m (H' 0 i))), (fun i => nI (H' 1 i)), (fun i => nI (H' 2 i)), (fun i => nI (H' 3 i)), (fun i => nI (H' 4 i)), (fun i => nI (H' 5 i)), (fun i => nI (H' 6 i)), (fun i => lN (H' 7 i)), (fun i => nI (H' 8 i)), pd', pA, pB, (fun i => nI (rt' i)), ca, tk, so, ro, se, ki, ko, vo, ng, nc, st) → wpX_insert post (cp, sl, th, (nI fc), pc, (lN ep), (fun i => nI (hp_m (H 0 i))), (fun i => nI (H 1 i)), (fun i => nI (H 2 i)), (fun i => nI (H 3 i)), (fun i => nI (H 4 i)), (fun i => nI (H 5 i)), (fun i => nI (H 6 i)), (fun i => lN (H 7 i)), (fun i => nI (H 8 i)), pd, pA, pB, (fun i => nI (rt i)), ca, tk, so, ro, se, ki, ko, vo, ng, nc, st) (nI k) (nI v) (nI (2 ^ b)) := by
  have hu := hp_ru C hp_xz (s := 0) (by decide) h0
  have w : hp_W H rt ep k 0 0 (rt 0) := ⟨rfl, Or.inl ⟨rfl, rfl⟩⟩
  obtain ⟨H', rt', fc', pd', B, hw⟩ := in_l (cp := cp) (sl := sl) (th := th) (pc := pc) (pA := pA) (pB := pB) (ca := ca) (tk := tk) (so := so) (ro := ro) (se := se) (ki := ki) (ko := ko) (vo := vo) (ng := ng) (nc := nc) (st := st) hv e31 hb t1 t2 hk 16 0 0 (rt 0) fc H rt pd (by omega) (hp_l16 (hp_CT C hp_xz) (hp_uS hu)) C (fun z => absurd rfl z) E w hu hnk (fun z => absurd rfl z) (by omega) b24
  refine ⟨H', rt', fc', pd', B, fun post hp => ?_⟩
  unfold wpX_insert
  exact nm_e ⟨17, hw post hp 17 (by omega)⟩
end
end
section
/-! unbind: the pure end -/
theorem sm_lt {f g : Nat → Nat} {n x : Nat} (h : ∀ i, i < n → f i ≤ g i) (hx : x < n) (h1 : f x + 1 ≤ g x) : sm_s f n + 1 ≤ sm_s g n := by
  induction n with
  | zero => omega
  | succ n ih =>
    rw [sm_n, sm_n]
    by_cases z : x = n
    · have := sm_mono (f := f) (g := g) (n := n) (fun i hi => h i (by omega))
      rw [← z]
      rw [← z] at this
      omega
    · have := ih (fun i hi => h i (by omega)) (by omega)
      have := h n (by omega)
      omega
section
variable {H Hi H1 H' : Nat → Nat → Nat} {rt rt1 : Nat → Nat} {fc fc' ep k j p x sb ch : Nat}
/-- a link less -/
theorem hp_nl {c : Nat} (o : ∀ j, j ≠ 0 → H 6 j = 0 → H' 6 j = 0) (a4 : H' 4 = H 4) (a5 : H' 5 = H 5) (hu : hp_u H x) (z : H' 6 x = 0) (l : H 4 x = c ∨ H 5 x = c) : hp_n H' rt c + 1 ≤ hp_n H rt c := by
  unfold hp_n
  have h := sm_lt (f := hp_k H' c) (g := hp_k H c) (n := 256) (x := x) (fun j hj => by
    by_cases z : j = 0 ∨ H' 6 j = 0
    · rw [hp_kz z]; omega
    · have h1 : hp_k H' c j = ib_b (H' 4 j) c + ib_b (H' 5 j) c := if_neg z
      have h2 : ¬ (j = 0 ∨ H 6 j = 0) := by
        intro y
        rcases y with y | y
        · exact z (Or.inl y)
        · by_cases j0 : j = 0
          · exact z (Or.inl j0)
          · exact z (Or.inr (o j j0 y))
      have h3 : hp_k H c j = ib_b (H 4 j) c + ib_b (H 5 j) c := if_neg h2
      rw [h1, h3, a4, a5]
      omega) hu.2.1 (by
    rw [hp_kz (Or.inr z), hp_ku hu]
    rcases l with l | l
    · rw [ib_y l]; omega
    · rw [ib_y l]; omega)
  omega
/-- ch is the child of x toward k, a leaf or nothing; sb is the other one -/
def un_B (H : Nat → Nat → Nat) (x k ch sb : Nat) : Prop :=
  hp_c H x k = ch ∧ H 0 ch = 0 ∧ ((H 0 x = 0 ∧ ch = 0 ∧ sb = 0) ∨ (H 0 x ≠ 0 ∧ ((ch = H 4 x ∧ sb = H 5 x) ∨ (ch = H 5 x ∧ sb = H 4 x))))
theorem un_c (C : hp_C H rt fc hp_x p) (ho : p ≠ 0 → H 3 p + 1 = H 3 (H 4 p) + H 3 (H 5 p)) (w : hp_W H rt ep k j p x) (hx : hp_u H x) (hB : un_B H x k ch sb) (hlp : H 0 x = 0 → p = 0)
    (ni : Hi 0 = H 0 ∧ Hi 1 = H 1 ∧ Hi 2 = H 2 ∧ Hi 3 = H 3 ∧ Hi 4 = H 4 ∧ Hi 5 = H 5 ∧ Hi 6 = un_u (H 6) sb (H 6 sb + 1) ∧ Hi 7 = H 7 ∧ Hi 8 = H 8)
    (R : hp_R Hi rt p k sb H1 rt1) (a : H1 0 = Hi 0 ∧ H1 1 = Hi 1 ∧ H1 2 = Hi 2 ∧ H1 3 = Hi 3 ∧ H1 6 = Hi 6 ∧ H1 7 = Hi 7 ∧ H1 8 = Hi 8) :
    hp_C H1 rt1 fc (fun c => ib_b x c) 0 ∧ (∀ c, hp_n H1 rt1 c + ib_b x c = hp_n H rt c + ib_b sb c) ∧ (∀ c, c ≠ 0 → (H1 6 c = 0 ↔ H 6 c = 0)) ∧ hp_S H sb ∧ (p ≠ 0 → hp_u H p ∧ H 0 p ≠ 0 ∧ H 7 p = ep ∧ H 0 x < H 0 p) := by
  obtain ⟨i0, i1, i2, i3, i4, i5, i6, i7, i8⟩ := ni
  have T := hp_CT C hp_xz
  have sx := hp_uS hx
  have ss : hp_S H sb := by
    rcases hB.2.2 with ⟨_, _, z⟩ | ⟨_, ⟨_, z⟩ | ⟨_, z⟩⟩
    · rw [z]; exact hp_S0
    · rw [z]; exact (T.2.2 x sx).2.2.1
    · rw [z]; exact (T.2.2 x sx).2.1
  have up1 : ∀ c, Hi 6 c = H 6 c + ib_b sb c := by
    intro c
    rw [i6]
    by_cases z : c = sb
    · rw [z, un_s, ib_y rfl]
    · rw [un_n z, ib_z (fun w => z w.symm), Nat.add_zero]
  obtain ⟨C1, N1, U1⟩ := cv_inc (H' := Hi) C ss ⟨i0, i1, i2, i3, i4, i5, i8⟩ up1
  have pe : p ≠ 0 → hp_u H p ∧ H 0 p ≠ 0 ∧ H 7 p = ep ∧ H 0 x < H 0 p := by
    intro z
    rcases w with ⟨w1, h | ⟨i, ji, w2, h1, h2, h3⟩⟩
    · exact absurd h.2 z
    · refine ⟨h1, h3, h2, ?_⟩
      rw [ji, hp_sn, w2] at w1
      obtain ⟨l, hl⟩ : ∃ l, H 0 p = l + 1 := ⟨H 0 p - 1, by omega⟩
      have h4 := hp_cl T (k := k) (hp_uS h1) hl
      rw [w1] at h4
      omega
  have hP := hp_WP w
  have P1 : hp_P Hi rt p k x := by
    rcases hP with P | ⟨u, lv, P⟩
    · exact Or.inl P
    · refine Or.inr ⟨⟨u.1, u.2.1, fun z => u.2.2 ((U1 p u.1).mp z)⟩, by rw [i0]; exact lv, ?_⟩
      unfold hp_c at P ⊢
      rw [i0, i4, i5]
      exact P
  have xN := fun (z : x ≠ p) => (C.2.1 x hx).2.2.2 z
  refine ⟨?_, ?_, fun c c0 => by rw [a.2.2.2.2.1]; exact U1 c c0, ss, pe⟩
  · refine hp_Cx (cv_rel (e' := 0) C1 P1 R ⟨a.1, a.2.1, a.2.2.1, a.2.2.2.1, a.2.2.2.2.1, a.2.2.2.2.2.2⟩ ss.1 ?_ ?_ (fun c h _ => h)) (fun c => by rw [hp_x0]; omega)
    · intro pz
      have hp := pe pz
      have lx : H 0 x ≠ 0 := fun z => pz (hlp z)
      obtain ⟨l, hl⟩ : ∃ l, H 0 x = l + 1 := ⟨H 0 x - 1, by omega⟩
      have g := (C.2.1 x hx).1.2.2.2.2.2 l hl
      have ev := (hp_ev T sx hl).1
      rw [i0, i1]
      have key : ∀ q, H 1 q / 2 ^ l = H 1 x / 2 ^ l ∨ H 1 q / 2 ^ l = H 1 x / 2 ^ l + 1 → H 1 q / 2 ^ (H 0 p - 1) = H 1 x / 2 ^ (H 0 p - 1) := by
        intro q hq
        apply pw_le (a := l + 1) (by omega)
        rw [pw_s, pw_s]
        omega
      rcases hB.2.2 with ⟨z, _⟩ | ⟨_, ⟨_, z⟩ | ⟨_, z⟩⟩
      · exact absurd z lx
      · rw [z]; exact ⟨g.2.1, by omega, key _ (Or.inr g.2.2.2.2.2)⟩
      · rw [z]; exact ⟨g.1, by omega, key _ (Or.inl g.2.2.2.2.1)⟩
    · intro pz _
      have hp := pe pz
      have hh := ho pz
      have xp : x ≠ p := fun z => by have := hp.2.2.2; rw [z] at this; omega
      have lx : H 0 x ≠ 0 := fun z => pz (hlp z)
      have n1 := xN xp
      unfold hp_N at n1
      rw [if_neg lx] at n1
      obtain ⟨l, hl⟩ : ∃ l, H 0 x = l + 1 := ⟨H 0 x - 1, by omega⟩
      have g := (C.2.1 x hx).1.2.2.2.2.2 l hl
      have sum : H 3 x = 1 + H 3 sb := by
        have lf : ∀ q, q = ch → q ≠ 0 → hp_S H q → H 3 q = 1 := by
          intro q hq q0 hs
          have qp : q ≠ p := fun z => by
            have h1 := hB.2.1
            rw [← hq, z] at h1
            exact hp.2.1 h1
          have n2 := (C.2.1 q (hp_Su hs q0)).2.2.2 qp
          unfold hp_N at n2
          rw [if_pos (by rw [hq]; exact hB.2.1)] at n2
          exact n2
        rcases hB.2.2 with ⟨z, _⟩ | ⟨_, ⟨z1, z2⟩ | ⟨z1, z2⟩⟩
        · exact absurd z lx
        · rw [n1, z2, lf (H 4 x) z1.symm g.1 (T.2.2 x sx).2.1]
        · rw [n1, z2, lf (H 5 x) z1.symm g.2.1 (T.2.2 x sx).2.2.1, Nat.add_comm]
      unfold hp_N
      rw [a.1, a.2.2.2.1, i0, i3, if_neg hp.2.1]
      rcases hP with ⟨z, _⟩ | ⟨u, lv, P⟩
      · exact absurd z pz
      · unfold hp_c at P
        rw [if_neg lv] at P
        rcases R with ⟨z, _⟩ | ⟨_, _, R⟩
        · exact absurd z pz
        · rw [i0] at R
          rcases R with R | R
          · rw [if_pos R.1] at P
            rw [R.2.1, R.2.2, un_s, i4]
            rw [P] at hh
            omega
          · rw [if_neg R.1] at P
            rw [R.2.1, R.2.2, un_s, i5]
            rw [P] at hh
            omega
  · intro c
    have h1 := hp_rn P1 R a.2.2.2.2.1 c
    have h2 := N1 c
    omega
theorem un_24 (C : hp_C H rt fc hp_x p) (ho : p ≠ 0 → H 3 p + 1 = H 3 (H 4 p) + H 3 (H 5 p)) (w : hp_W H rt ep k j p x) (hx : hp_u H x) (hB : un_B H x k ch sb) (hlp : H 0 x = 0 → p = 0)
    (ni : Hi 0 = H 0 ∧ Hi 1 = H 1 ∧ Hi 2 = H 2 ∧ Hi 3 = H 3 ∧ Hi 4 = H 4 ∧ Hi 5 = H 5 ∧ Hi 6 = un_u (H 6) sb (H 6 sb + 1) ∧ Hi 7 = H 7 ∧ Hi 8 = H 8)
    (R : hp_R Hi rt p k sb H1 rt1) (a : H1 0 = Hi 0 ∧ H1 1 = Hi 1 ∧ H1 2 = Hi 2 ∧ H1 3 = Hi 3 ∧ H1 6 = Hi 6 ∧ H1 7 = Hi 7 ∧ H1 8 = Hi 8) :
    (∀ c, hp_S H c → (p = 0 ∨ H 0 c < H 0 p) → mp_m H1 c = mp_m H c) ∧ (cn_c (mp_m H (rt 0)) 65536 ≤ 24 → H1 3 x ≤ 24) := by
  obtain ⟨C1, N1, U1, ss, pe⟩ := un_c C ho w hx hB hlp ni R a
  obtain ⟨i0, i1, i2, i3, i4, i5, i6, i7, i8⟩ := ni
  have T := hp_CT C hp_xz
  have A : ∀ c, hp_S H c → (p = 0 ∨ H 0 c < H 0 p) → mp_m H1 c = mp_m H c := by
    intro c hc hl
    have o45 : ∀ c, (p = 0 ∨ H 0 c < H 0 p) → H1 4 c = H 4 c ∧ H1 5 c = H 5 c := by
      intro c hl
      rcases R with ⟨_, _, r4, r5⟩ | ⟨pz, _, R⟩
      · rw [r4, r5, i4, i5]; exact ⟨rfl, rfl⟩
      · have cp : c ≠ p := by
          intro z
          rcases hl with h | h
          · exact pz h
          · rw [z] at h; omega
        rcases R with R | R
        · rw [R.2.1, R.2.2, un_n cp, i4, i5]; exact ⟨rfl, rfl⟩
        · rw [R.2.1, R.2.2, un_n cp, i4, i5]; exact ⟨rfl, rfl⟩
    refine mp_fr (S := fun c => hp_S H c ∧ (p = 0 ∨ H 0 c < H 0 p)) (fun b hb => ?_) (fun b _ => by rw [a.1, i0]) (fun b _ => by rw [a.2.1, i1]) (fun b _ => by rw [a.2.2.1, i2]) (fun b hb => (o45 b hb.2).1) (fun b hb => (o45 b hb.2).2) ⟨hc, hl⟩
    have h1 := T.2.2 b hb.1
    refine ⟨⟨h1.2.1, ?_⟩, ⟨h1.2.2.1, ?_⟩⟩
    · rcases hb.2 with h | h
      · exact Or.inl h
      · right
        by_cases z : H 0 b = 0
        · rw [(hp_lf T (k := 0) hb.1 z).2.1, T.1.1]; omega
        · obtain ⟨l, hl⟩ : ∃ l, H 0 b = l + 1 := ⟨H 0 b - 1, by omega⟩
          have g := (hp_qs T hb.1 hl).2.2.2.2.2.2 l hl
          omega
    · rcases hb.2 with h | h
      · exact Or.inl h
      · right
        by_cases z : H 0 b = 0
        · rw [(hp_lf T (k := 0) hb.1 z).2.2, T.1.1]; omega
        · obtain ⟨l, hl⟩ : ∃ l, H 0 b = l + 1 := ⟨H 0 b - 1, by omega⟩
          have g := (hp_qs T hb.1 hl).2.2.2.2.2.2 l hl
          omega
  refine ⟨A, fun b24 => ?_⟩
  have T1 := hp_CT C1 (fun c => by omega)
  have sx1 : hp_S H1 x := ⟨hx.2.1, Or.inr (fun z => hx.2.2 ((U1 x hx.1).mp z))⟩
  rw [mp_n T1 (hp_CN C1) 16 x (hp_l16 T1 sx1) sx1]
  rw [A x (hp_uS hx) (by
    by_cases z : p = 0
    · exact Or.inl z
    · exact Or.inr (pe z).2.2.2)]
  refine Nat.le_trans (cn_sub (fun k' hk => ?_) 65536) b24
  refine mp_sub T j (rt 0) (hp_rS C hp_xz (by decide)) (k := k) ?_
  rw [w.1]
  exact hk
theorem un_e (C : hp_C H rt fc hp_x p) (ho : p ≠ 0 → H 3 p + 1 = H 3 (H 4 p) + H 3 (H 5 p)) (E : hp_E H rt ep) (w : hp_W H rt ep k j p x) (hx : hp_u H x) (hB : un_B H x k ch sb) (hlp : H 0 x = 0 → p = 0) (hk : H 1 (hp_w H 16 x k) = k)
    (ni : Hi 0 = H 0 ∧ Hi 1 = H 1 ∧ Hi 2 = H 2 ∧ Hi 3 = H 3 ∧ Hi 4 = H 4 ∧ Hi 5 = H 5 ∧ Hi 6 = un_u (H 6) sb (H 6 sb + 1) ∧ Hi 7 = H 7 ∧ Hi 8 = H 8)
    (R : hp_R Hi rt p k sb H1 rt1) (a : H1 0 = Hi 0 ∧ H1 1 = Hi 1 ∧ H1 2 = Hi 2 ∧ H1 3 = Hi 3 ∧ H1 6 = Hi 6 ∧ H1 7 = Hi 7 ∧ H1 8 = Hi 8)
    (C' : hp_C H' rt1 fc' hp_x 0) (q : hp_q H1 H') (mo : ∀ c, H' 6 c ≤ H1 6 c) : bo_O H rt ep k 0 H' rt1 fc' := by
  obtain ⟨A, _⟩ := un_24 C ho w hx hB hlp ni R a
  obtain ⟨C1, N1, U1, ss, pe⟩ := un_c C ho w hx hB hlp ni R a
  obtain ⟨i0, i1, i2, i3, i4, i5, i6, i7, i8⟩ := ni
  have T := hp_CT C hp_xz
  have T1 := hp_CT C1 (fun c => by omega)
  have sx := hp_uS hx
  have hP := hp_WP w
  have rs : ∀ s, s ≠ 0 → rt1 s = rt s := by
    intro s hs
    rcases R with ⟨_, er, _⟩ | ⟨_, er, _⟩
    · rw [er, un_n hs]
    · rw [er]
  have e7 : H' 7 = H 7 := by rw [q.2.2.2.2.2.2, a.2.2.2.2.2.1, i7]
  have uu : ∀ c, hp_u H' c → hp_u H1 c ∧ hp_u H c := by
    intro c hc
    have h1 : H1 6 c ≠ 0 := fun z => hc.2.2 (by have := mo c; omega)
    exact ⟨⟨hc.1, hc.2.1, h1⟩, ⟨hc.1, hc.2.1, fun z => h1 ((U1 c hc.1).mpr z)⟩⟩
  have hx1 : hp_u H1 x := ⟨hx.1, hx.2.1, fun z => hx.2.2 ((U1 x hx.1).mp z)⟩
  have o45 : ∀ c, (c ≠ p ∨ p = 0) → H1 4 c = H 4 c ∧ H1 5 c = H 5 c := by
    intro c hc
    rcases R with ⟨_, _, r4, r5⟩ | ⟨pz, _, R⟩
    · rw [r4, r5, i4, i5]; exact ⟨rfl, rfl⟩
    · have cp : c ≠ p := by
        rcases hc with h | h
        · exact h
        · exact absurd h pz
      rcases R with R | R
      · rw [R.2.1, R.2.2, un_n cp, i4, i5]; exact ⟨rfl, rfl⟩
      · rw [R.2.1, R.2.2, un_n cp, i4, i5]; exact ⟨rfl, rfl⟩
  have lowx : p = 0 ∨ H 0 x < H 0 p := by
    by_cases z : p = 0
    · exact Or.inl z
    · exact Or.inr (pe z).2.2.2
  -- the two children of x
  have kids : ∀ k', H 0 x ≠ 0 → mp_m H x k' = mp_m H ch k' + mp_m H sb k' ∧ (mp_m H ch k' = 0 ∨ mp_m H sb k' = 0) := by
    intro k' lx
    obtain ⟨l, hl⟩ : ∃ l, H 0 x = l + 1 := ⟨H 0 x - 1, by omega⟩
    have h1 := mp_a T sx hl k'
    rcases hB.2.2 with ⟨z, _⟩ | ⟨_, ⟨z1, z2⟩ | ⟨z1, z2⟩⟩
    · exact absurd z lx
    · rw [z1, z2]; exact h1
    · rw [z1, z2]
      exact ⟨by rw [h1.1, Nat.add_comm], h1.2.symm⟩
  have chl : H 0 x ≠ 0 → ch ≠ 0 ∧ H 1 ch = k := by
    intro lx
    obtain ⟨l, hl⟩ : ∃ l, H 0 x = l + 1 := ⟨H 0 x - 1, by omega⟩
    have h1 := hp_cl T (k := k) sx hl
    rw [hB.1] at h1
    rw [hp_w16 T sx lx, hB.1, hp_w0 hB.2.1] at hk
    exact ⟨h1.2, hk⟩
  have lowsb : p = 0 ∨ H 0 sb < H 0 p := by
    by_cases z : p = 0
    · exact Or.inl z
    · right
      have h1 := (pe z).2.2.2
      have lx : H 0 x ≠ 0 := fun y => z (hlp y)
      obtain ⟨l, hl⟩ : ∃ l, H 0 x = l + 1 := ⟨H 0 x - 1, by omega⟩
      have g := (C.2.1 x hx).1.2.2.2.2.2 l hl
      rcases hB.2.2 with ⟨y, _⟩ | ⟨_, ⟨_, y⟩ | ⟨_, y⟩⟩
      · exact absurd y lx
      · rw [y]; omega
      · rw [y]; omega
  have gp : p ≠ 0 → Hi 0 p = H 0 p ∧ Hi 4 p = H 4 p ∧ Hi 5 p = H 5 p := fun _ => by rw [i0, i4, i5]; exact ⟨rfl, rfl, rfl⟩
  have lks := fun (k' c : Nat) => rl_c hP R gp a.1 (k' := k') (c := c) (by rw [i0, i4, i5]; exact ⟨rfl, rfl, rfl⟩)
  have seen : ∀ k', k' ≠ k → mp_m H1 sb k' = mp_m H x k' := by
    intro k' z
    rw [A sb ss lowsb]
    by_cases lx : H 0 x = 0
    · rcases hB.2.2 with ⟨_, _, y⟩ | ⟨y, _⟩
      · rw [y, mp_0 T, mp_l hx.1 lx]
        rw [hp_w0 lx] at hk
        rw [hk, if_neg (fun y => z y.symm)]
      · exact absurd lx y
    · have h1 := chl lx
      rw [(kids k' lx).1, mp_l h1.1 hB.2.1, h1.2, if_neg (fun y => z y.symm), Nat.zero_add]
  refine ⟨C', ⟨fun c hc => ?_, fun s s0 s5 hs => ?_⟩, rs, fun s s0 s5 => ?_, ?_⟩
  · obtain ⟨hc1, hc0⟩ := uu c hc
    refine ⟨?_, ?_, ?_⟩
    · rw [e7]; exact (E.1 c hc0).1
    · intro h7
      rw [e7] at h7
      have cp : c ≠ p := fun y => h7 (by rw [y]; exact (pe (by rw [← y]; exact hc.1)).2.2.1)
      rw [q.2.2.2.2.1, q.2.2.2.2.2.1, (o45 c (Or.inl cp)).1, (o45 c (Or.inl cp)).2, e7]
      exact (E.1 c hc0).2.1 h7
    · intro h7
      rw [e7] at h7
      have mm : ∀ j, j ≠ 0 → H1 6 j = 0 → H' 6 j = 0 := fun j _ z => by have := mo j; omega
      have h1 := hp_nm (H := H1) (H' := H') (rt := rt1) mm q.2.2.2.2.1 q.2.2.2.2.2.1 c
      have h2 := N1 c
      have h3 := (E.1 c hc0).2.2 h7
      by_cases z : sb = c
      · subst z
        have sx0 : sb ≠ 0 := hc.1
        have lx : H 0 x ≠ 0 := by
          intro y
          rcases hB.2.2 with ⟨_, _, v⟩ | ⟨v, _⟩
          · exact sx0 v
          · exact v y
        have lk : H 4 x = sb ∨ H 5 x = sb := by
          rcases hB.2.2 with ⟨y, _⟩ | ⟨_, ⟨_, y⟩ | ⟨_, y⟩⟩
          · exact absurd y lx
          · exact Or.inr y.symm
          · exact Or.inl y.symm
        have x7 : H 7 x = ep := by
          apply Classical.byContradiction
          intro y
          have h4 := (E.1 x hx).2.1 y
          rcases lk with l | l
          · rw [l] at h4; exact h4.1 sx0 h7
          · rw [l] at h4; exact h4.2 sx0 h7
        have xs : x ≠ sb := by
          intro y
          obtain ⟨l, hl⟩ : ∃ l, H 0 x = l + 1 := ⟨H 0 x - 1, by omega⟩
          have g := (C.2.1 x hx).1.2.2.2.2.2 l hl
          rcases lk with v | v
          · rw [v, ← y] at g; omega
          · rw [v, ← y] at g; omega
        have h5 := N1 x
        rw [ib_y rfl, ib_z (fun y => xs y.symm)] at h5
        have h6 := (E.1 x hx).2.2 x7
        have h8 := hp_nm (H := H1) (H' := H') (rt := rt1) mm q.2.2.2.2.1 q.2.2.2.2.2.1 x
        have h9 := C'.2.2.1 x hx.1 hx.2.1
        rw [hp_x0] at h9
        have h10 : H' 6 x = 0 := by omega
        have xp : x ≠ p ∨ p = 0 := by
          by_cases y : p = 0
          · exact Or.inr y
          · left
            intro v
            have := (pe y).2.2.2
            rw [v] at this
            omega
        have h11 := hp_nl (H := H1) (H' := H') (rt := rt1) (c := sb) mm q.2.2.2.2.1 q.2.2.2.2.2.1 hx1 h10 (by
          rw [(o45 x xp).1, (o45 x xp).2]
          exact lk)
        rw [ib_y rfl, ib_z xs] at h2
        omega
      · rw [ib_z z] at h2
        omega
  · rw [rs s s0] at hs ⊢
    rw [e7]
    exact E.2 s s0 s5 hs
  · rw [rs s s0, (hp_qm q _).2]
    have TO := hp_TO C hp_xz E
    have cO : ∀ c, hp_O H ep c → H1 4 c = H 4 c ∧ H1 5 c = H 5 c := by
      intro c hc
      apply o45
      by_cases z : p = 0
      · exact Or.inr z
      · left
        intro y
        rcases hc.2 with h | h
        · exact z (y ▸ h)
        · exact h (by rw [y]; exact (pe z).2.2.1)
    exact mp_fr (S := hp_O H ep) (fun c hc => ⟨(TO.2.2 c hc).2.1, (TO.2.2 c hc).2.2.1⟩) (fun c hc => by rw [a.1, i0]) (fun c hc => by rw [a.2.1, i1]) (fun c hc => by rw [a.2.2.1, i2]) (fun c hc => (cO c hc).1) (fun c hc => (cO c hc).2) (hp_rO C hp_xz E s0 s5)
  · rw [(hp_qm q _).2]
    have sub : ∀ c, hp_S H c → hp_S H1 c := by
      intro c hc
      refine ⟨hc.1, ?_⟩
      rcases hc.2 with h | h
      · exact Or.inl h
      · by_cases z : c = 0
        · exact Or.inl z
        · exact Or.inr (fun y => h ((U1 c z).mp y))
    funext k'
    by_cases z : k' = k
    · subst z
      rw [un_s]
      have hs := rl_s (rt1 := rt1) (y := sb) T w (hp_rS C hp_xz (by decide)) (fun c hc cp => by
        rcases lks k' c with h | h
        · exact h.1
        · exact absurd h.1 cp) (fun pz => by
        constructor
        · rcases lks k' p with h | h
          · exact absurd rfl (h.2 rfl pz)
          · exact h.2.2.1
        · rcases R with ⟨y, _⟩ | ⟨_, er, _⟩
          · exact absurd y pz
          · rw [er]) (fun pz => by
        rcases R with ⟨_, er, _⟩ | ⟨y, _⟩
        · rw [er, un_s]
        · exact absurd pz y)
      by_cases lx : H 0 x = 0
      · have p0 := hlp lx
        rcases R with ⟨_, er, _⟩ | ⟨y, _⟩
        · rw [er, un_s]
          rcases hB.2.2 with ⟨_, _, y⟩ | ⟨y, _⟩
          · rw [y]; exact mp_0 T1 k'
          · exact absurd lx y
        · exact absurd p0 y
      · have h1 := chl lx
        have sb0 : sb ≠ 0 := by
          obtain ⟨l, hl⟩ : ∃ l, H 0 x = l + 1 := ⟨H 0 x - 1, by omega⟩
          have g := (C.2.1 x hx).1.2.2.2.2.2 l hl
          rcases hB.2.2 with ⟨y, _⟩ | ⟨_, ⟨_, y⟩ | ⟨_, y⟩⟩
          · exact absurd y lx
          · rw [y]; exact g.2.1
          · rw [y]; exact g.1
        rw [mp_sm T1 (n := j) (c := rt1 0) (k := k') (hp_rS C1 (fun c => by omega) (by decide)) (by rw [hs]; exact sb0), hs, A sb ss lowsb]
        have h2 := (kids k' lx).2
        rw [mp_l h1.1 hB.2.1, h1.2, if_pos rfl] at h2
        rcases h2 with h2 | h2
        · omega
        · exact h2
    · rw [un_n z]
      have B := rm_A (p := p) (y := sb) (x := x) T T1 (k' := k') sub (fun c hc => by
        rw [a.1, a.2.1, a.2.2.1, i0, i1, i2]
        exact ⟨rfl, rfl, rfl⟩) (fun c hc _ => by
        rcases lks k' c with h | h
        · exact Or.inl h.1
        · exact Or.inr ⟨h.1, h.2.2⟩) (fun _ _ => seen k' z)
      rcases R with ⟨p0, er, _⟩ | ⟨pz, er, _⟩
      · rw [er, un_s, seen k' z]
        rcases hP with ⟨_, hr⟩ | ⟨hu, _⟩
        · rw [hr]
        · exact absurd p0 hu.1
      · rw [er]
        exact B 16 (rt 0) (hp_l16 T (hp_rS C hp_xz (by decide))) (hp_rS C hp_xz (by decide))
end
end
section
/-! unbind and bind: the walks -/
section
variable {cp sl th pc : Int32} {pd pA pB ca tk so ro se ki ko vo ng nc st : Nat → Int32} {ep k v : Nat}
theorem un_f {H : Nat → Nat → Nat} {rt : Nat → Nat} {fc j p x ch : Nat} (C : hp_C H rt fc hp_x p) (ho : p ≠ 0 → H 3 p + 1 = H 3 (H 4 p) + H 3 (H 5 p)) (E : hp_E H rt ep) (w : hp_W H rt ep k j p x) (hx : hp_u H x)
    (hch : hp_c H x k = ch) (lch : H 0 ch = 0) (hlp : H 0 x = 0 → p = 0) (hk : H 1 (hp_w H 16 x k) = k) (b24 : cn_c (mp_m H (rt 0)) 65536 ≤ 24) :
    ∃ (H' : Nat → Nat → Nat) (rt' : Nat → Nat) (fc' : Nat) (pd' : Nat → Int32), bo_O H rt ep k 0 H' rt' fc' ∧
      ∀ post : SX → Prop, post (cp, sl, th, (nI fc'), pc, (lN ep), (fun i => nI (hp_m (H' 0 i))), (fun i => nI (H' 1 i)), (fun i => nI (H' 2 i)), (fun i => nI (H' 3 i)), (fun i => nI (H' 4 i)), (fun i => nI (H' 5 i)), (fun i => nI (H' 6 i)), (fun i => lN (H' 7 i)), (fun i => nI (H' 8 i)), pd', pA, pB, (fun i => nI (rt' i)), ca, tk, so, ro, se, ki, ko, vo, ng, nc, st) → wX_unbind_72 post (nI k) (nI p) (nI x) (nI ch) cp sl th (nI fc) pc (lN ep) (fun i => nI (hp_m (H 0 i))) (fun i => nI (H 1 i)) (fun i => nI (H 2 i)) (fun i => nI (H 3 i)) (fun i => nI (H 4 i)) (fun i => nI (H 5 i)) (fun i => nI (H 6 i)) (fun i => lN (H 7 i)) (fun i => nI (H 8 i)) pd pA pB (fun i => nI (rt i)) ca tk so ro se ki ko vo ng nc st := by
  have T := hp_CT C hp_xz
  have x8 := hx.2.1
  have l8 := (C.2.1 x hx).2.1
  have r8 := (C.2.1 x hx).2.2.1
  obtain ⟨sb, hB, hsb⟩ : ∃ sb, un_B H x k ch sb ∧ (H 4 x ^^^ H 5 x) ^^^ ch = sb := by
    by_cases lx : H 0 x = 0
    · have h1 := hp_lf T (k := k) (hp_uS hx) lx
      have c0 : ch = 0 := by rw [← hch]; exact h1.1
      refine ⟨0, ⟨hch, lch, Or.inl ⟨lx, c0, rfl⟩⟩, ?_⟩
      rw [h1.2.1, h1.2.2, c0]
      rfl
    · have h2 := hch
      unfold hp_c at h2
      rw [if_neg lx] at h2
      split at h2
      · refine ⟨H 4 x, ⟨hch, lch, Or.inr ⟨lx, Or.inr ⟨h2.symm, rfl⟩⟩⟩, ?_⟩
        rw [← h2]; exact bt_x2 _ _
      · refine ⟨H 5 x, ⟨hch, lch, Or.inr ⟨lx, Or.inl ⟨h2.symm, rfl⟩⟩⟩, ?_⟩
        rw [← h2]; exact bt_x1 _ _
  obtain ⟨Hi, q⟩ : ∃ Hi : Nat → Nat → Nat, Hi = hp_p (H 0) (H 1) (H 2) (H 3) (H 4) (H 5) (un_u (H 6) sb (H 6 sb + 1)) (H 7) (H 8) := ⟨_, rfl⟩
  have ni : Hi 0 = H 0 ∧ Hi 1 = H 1 ∧ Hi 2 = H 2 ∧ Hi 3 = H 3 ∧ Hi 4 = H 4 ∧ Hi 5 = H 5 ∧ Hi 6 = un_u (H 6) sb (H 6 sb + 1) ∧ Hi 7 = H 7 ∧ Hi 8 = H 8 := by
    rw [q]; exact ⟨rfl, rfl, rfl, rfl, rfl, rfl, rfl, rfl, rfl⟩
  have pe : p ≠ 0 → hp_u H p ∧ H 0 p ≠ 0 := by
    intro z
    rcases w.2 with h | ⟨i, _, _, h1, h2, h3⟩
    · exact absurd h.2 z
    · exact ⟨h1, h3⟩
  have p8 : p < 256 := by
    by_cases z : p = 0
    · rw [z]; decide
    · exact (pe z).1.2.1
  obtain ⟨H1, rt1, R, a, hw⟩ := rl_wp (cp := cp) (sl := sl) (th := th) (pc := pc) (pd := pd) (pA := pA) (pB := pB) (ca := ca) (tk := tk) (so := so) (ro := ro) (se := se) (ki := ki) (ko := ko) (vo := vo) (ng := ng) (nc := nc) (st := st) (ep := ep) (fc := fc) (H := Hi) (rt := rt) (p := p) (k := k) (y := sb) p8 (fun z => by
    rw [ni.1]
    exact ⟨(pe z).2, hp_l16 T (hp_uS (pe z).1)⟩)
  obtain ⟨C1, N1, U1, ss, pe2⟩ := un_c C ho w hx hB hlp ni R a
  have h24 := (un_24 C ho w hx hB hlp ni R a).2 b24
  obtain ⟨H', fc', pd', C', hq, mo, nq, fl, hw2⟩ := re_wp (cp := cp) (sl := sl) (th := th) (pc := pc) (pd := pd) (pA := pA) (pB := pB) (ca := ca) (tk := tk) (so := so) (ro := ro) (se := se) (ki := ki) (ko := ko) (vo := vo) (ng := ng) (nc := nc) (st := st) (ep := ep) (Q := fun _ => True) C1 x8 (fun c hc _ => ⟨hc.1, fun _ => trivial, fun _ => trivial⟩) (fun _ => trivial) (by omega)
  refine ⟨H', rt1, fc', pd', un_e C ho E w hx hB hlp hk ni R a C' hq mo, fun post hp => ?_⟩
  have hh := hw (fun u => match u with | (f0, f1, f2, f3, f4, f5, b0, b1, b2, b3, b4, b5, b6, b7, b8, b9, b10, b11, b12, b13, b14, b15, b16, b17, b18, b19, b20, b21, b22, b23) => wpX_release (fun u => match u with | (f0, f1, f2, f3, f4, f5, b0, b1, b2, b3, b4, b5, b6, b7, b8, b9, b10, b11, b12, b13, b14, b15, b16, b17, b18, b19, b20, b21, b22, b23) => post (f0, f1, f2, f3, f4, f5, b0, b1, b2, b3, b4, b5, b6, b7, b8, b9, b10, b11, b12, b13, b14, b15, b16, b17, b18, b19, b20, b21, b22, b23)) (f0, f1, f2, f3, f4, f5, b0, b1, b2, b3, b4, b5, b6, b7, b8, b9, b10, b11, b12, b13, b14, b15, b16, b17, b18, b19, b20, b21, b22, b23) (nI x)) (hw2 _ hp)
  rw [q] at hh
  have ix : vp_in (nI x) 256 := vp_in_nI x8 (by decide)
  have isb : vp_in (nI sb) 256 := vp_in_nI ss.1 (by decide)
  have cx : (nI x).toNatClampNeg = x := nI_clamp (by omega)
  have cs : (nI sb).toNatClampNeg = sb := nI_clamp (by have := ss.1; omega)
  unfold wX_unbind_72
  refine ⟨ix, ix, nm_r (e' := nI sb) ?_ ⟨isb, isb, nm_r (e' := fun i => nI (un_u (H 6) sb (H 6 sb + 1) i)) ?_ hh⟩⟩
  · show (nI (H 4 (nI x).toNatClampNeg) ^^^ nI (H 5 (nI x).toNatClampNeg)) ^^^ nI ch = nI sb
    rw [cx, nx_xor, nx_xor, hsb]
  · rw [cs, nI_1]
    exact un_I _ _ _
theorem un_l (e31 : ep < 2 ^ 31) :
    ∀ (m j p x fc : Nat) (H : Nat → Nat → Nat) (rt : Nat → Nat) (pd : Nat → Int32), m + j = 16 → H 0 x ≤ m → hp_C H rt fc hp_x p → (p ≠ 0 → H 3 p + 1 = H 3 (H 4 p) + H 3 (H 5 p)) → hp_E H rt ep → hp_W H rt ep k j p x → hp_u H x → (H 0 x = 0 → p = 0) → H 1 (hp_w H 16 x k) = k → 20 ≤ fc + j → cn_c (mp_m H (rt 0)) 65536 ≤ 24 →
    ∃ (H' : Nat → Nat → Nat) (rt' : Nat → Nat) (fc' : Nat) (pd' : Nat → Int32), bo_O H rt ep k 0 H' rt' fc' ∧
      ∀ post : SX → Prop, post (cp, sl, th, (nI fc'), pc, (lN ep), (fun i => nI (hp_m (H' 0 i))), (fun i => nI (H' 1 i)), (fun i => nI (H' 2 i)), (fun i => nI (H' 3 i)), (fun i => nI (H' 4 i)), (fun i => nI (H' 5 i)), (fun i => nI (H' 6 i)), (fun i => lN (H' 7 i)), (fun i => nI (H' 8 i)), pd', pA, pB, (fun i => nI (rt' i)), ca, tk, so, ro, se, ki, ko, vo, ng, nc, st) → ∀ n, m < n → wX_unbind_20 post (nI k) n (nI p) (nI x) (nI (hp_c H x k)) (nI j) cp sl th (nI fc) pc (lN ep) (fun i => nI (hp_m (H 0 i))) (fun i => nI (H 1 i)) (fun i => nI (H 2 i)) (fun i => nI (H 3 i)) (fun i => nI (H 4 i)) (fun i => nI (H 5 i)) (fun i => nI (H 6 i)) (fun i => lN (H 7 i)) (fun i => nI (H 8 i)) pd pA pB (fun i => nI (rt i)) ca tk so ro se ki ko vo ng nc st := by
  intro m
  induction m with
  | zero =>
    intro j p x fc H rt pd hj hl C ho E w hx hlp hk hf b24
    have T := hp_CT C hp_xz
    obtain ⟨H', rt', fc', pd', B, hw⟩ := un_f (cp := cp) (sl := sl) (th := th) (pc := pc) (pd := pd) (pA := pA) (pB := pB) (ca := ca) (tk := tk) (so := so) (ro := ro) (se := se) (ki := ki) (ko := ko) (vo := vo) (ng := ng) (nc := nc) (st := st) C ho E w hx rfl (by rw [(hp_lf T (k := k) (hp_uS hx) (by omega)).1, T.1.1]) hlp hk b24
    refine ⟨H', rt', fc', pd', B, fun post hp n hn => ?_⟩
    obtain ⟨n, rfl⟩ : ∃ n', n = n' + 1 := ⟨n - 1, by omega⟩
    exact br_t (nI_le (a := 16) (by omega) (by omega)) (hw post hp)
  | succ m ih =>
    intro j p x fc H rt pd hj hl C ho E w hx hlp hk hf b24
    have T := hp_CT C hp_xz
    have x8 := hx.2.1
    have sc := hp_cS T (k := k) (hp_uS hx)
    have c8 : hp_c H x k < 256 := sc.1
    have ic : vp_in (nI (hp_c H x k)) 256 := vp_in_nI c8 (by decide)
    have l16 := hp_l16 T sc
    have lm := hp_mb l16
    by_cases lc : H 0 (hp_c H x k) = 0
    · obtain ⟨H', rt', fc', pd', B, hw⟩ := un_f (cp := cp) (sl := sl) (th := th) (pc := pc) (pd := pd) (pA := pA) (pB := pB) (ca := ca) (tk := tk) (so := so) (ro := ro) (se := se) (ki := ki) (ko := ko) (vo := vo) (ng := ng) (nc := nc) (st := st) C ho E w hx rfl lc hlp hk b24
      refine ⟨H', rt', fc', pd', B, fun post hp n hn => ?_⟩
      obtain ⟨n, rfl⟩ : ∃ n', n = n' + 1 := ⟨n - 1, by omega⟩
      refine br_f (nI_ge (b := 16) (by omega) (by decide)) ⟨ic, br_t ?_ (hw post hp)⟩
      show nI (hp_m (H 0 (nI (hp_c H x k)).toNatClampNeg)) = 0
      rw [nI_clamp (by omega), lc]
      rfl
    · have lx : H 0 x ≠ 0 := by
        intro z
        rw [(hp_lf T (k := k) (hp_uS hx) z).1, T.1.1] at lc
        exact lc rfl
      obtain ⟨H1, rt1, fc1, pd1, x1, O, hw⟩ := ow_wp (cp := cp) (sl := sl) (th := th) (pc := pc) (pd := pd) (pA := pA) (pB := pB) (ca := ca) (tk := tk) (so := so) (ro := ro) (se := se) (ki := ki) (ko := ko) (vo := vo) (ng := ng) (nc := nc) (st := st) C E e31 (by omega) w hx (Or.inr rfl) b24
      have O' := O
      obtain ⟨o1, o2, o3, o4, o5, o6, o7, o8, o9, o10, o11⟩ := O'
      have T1 := hp_CT o1 hp_xz
      have lv1 : H1 0 x1 ≠ 0 := by rw [o6.1]; exact lx
      obtain ⟨l, hl1⟩ : ∃ l, H1 0 x1 = l + 1 := ⟨H1 0 x1 - 1, by omega⟩
      have cl1 := hp_cl T1 (k := k) (hp_uS o4) hl1
      have cc1 : hp_c H1 x1 k = hp_c H x k := by unfold hp_c; rw [o6.1, o6.2.2.2.2.1, o6.2.2.2.2.2]
      have x18 := o4.2.1
      have lowx : p = 0 ∨ H1 0 x1 < H1 0 p := by
        rcases hp_WP o10 with ⟨p0, _⟩ | ⟨u, lv, P⟩
        · exact Or.inl p0
        · right
          obtain ⟨l2, hl2⟩ : ∃ l, H1 0 p = l + 1 := ⟨H1 0 p - 1, by omega⟩
          have h1 := hp_cl T1 (k := k) (hp_uS u) hl2
          rw [P] at h1
          omega
      have x1p : x1 ≠ p := by
        intro z
        rcases lowx with h | h
        · exact o4.1 (z.trans h)
        · rw [z] at h; omega
      have g1 := (o1.2.1 x1 o4)
      have g2 := g1.1.2.2.2.2.2 l hl1
      have ne4 : H1 4 x1 ≠ x1 := fun z => by rw [z] at g2; omega
      have ne5 : H1 5 x1 ≠ x1 := fun z => by rw [z] at g2; omega
      have ge1 : 1 ≤ H1 3 x1 := by
        refine (re_g (Q := fun c => p = 0 ∨ H1 0 c < H1 0 p) o1 hp_xz (fun c hc hq => ?_) 16 x1 g1.1.1 o4 lowx).1
        refine ⟨?_, ?_⟩
        · intro z
          rcases hq with h | h
          · exact hc.1 (z.trans h)
          · rw [z] at h; omega
        · by_cases z : H1 0 c = 0
          · have h1 := hp_lf T1 (k := 0) (hp_uS hc) z
            exact ⟨fun y => absurd h1.2.1 y, fun y => absurd h1.2.2 y⟩
          · obtain ⟨l3, hl3⟩ : ∃ l, H1 0 c = l + 1 := ⟨H1 0 c - 1, by omega⟩
            have h1 := (o1.2.1 c hc).1.2.2.2.2.2 l3 hl3
            constructor
            · intro _
              rcases hq with h | h
              · exact Or.inl h
              · exact Or.inr (by omega)
            · intro _
              rcases hq with h | h
              · exact Or.inl h
              · exact Or.inr (by omega)
      obtain ⟨H2, q⟩ : ∃ H2 : Nat → Nat → Nat, H2 = hp_p (H1 0) (H1 1) (H1 2) (un_u (H1 3) x1 (H1 3 x1 - 1)) (H1 4) (H1 5) (H1 6) (H1 7) (H1 8) := ⟨_, rfl⟩
      have q0 : H2 0 = H1 0 := by rw [q]; rfl
      have q1 : H2 1 = H1 1 := by rw [q]; rfl
      have q2 : H2 2 = H1 2 := by rw [q]; rfl
      have q3 : H2 3 = un_u (H1 3) x1 (H1 3 x1 - 1) := by rw [q]; rfl
      have q4 : H2 4 = H1 4 := by rw [q]; rfl
      have q5 : H2 5 = H1 5 := by rw [q]; rfl
      have q6 : H2 6 = H1 6 := by rw [q]; rfl
      have q7 : H2 7 = H1 7 := by rw [q]; rfl
      have q8 : H2 8 = H1 8 := by rw [q]; rfl
      have C2 : hp_C H2 rt1 fc1 hp_x x1 := by
        refine cv_cnt (p := p) o1 o4 ⟨q0, q1, q2, q4, q5, q6, q8⟩ (fun c hc => by rw [q3, un_n hc]) (hp_uq o2 o10 o4 o5) (fun hu _ => ?_) (fun c h1 _ => h1)
        have oo := o11.1 hu.1
        have hh := ho hu.1
        rw [← oo.1, ← oo.2.1, ← oo.2.2.1] at hh
        rcases hp_WP o10 with ⟨p0, _⟩ | ⟨u, lv, P⟩
        · exact absurd p0 hu.1
        · obtain ⟨l2, hl2⟩ : ∃ l, H1 0 p = l + 1 := ⟨H1 0 p - 1, by omega⟩
          have g3 := (o1.2.1 p hu).1.2.2.2.2.2 l2 hl2
          have ne : H1 4 p ≠ H1 5 p := fun z => by rw [z] at g3; omega
          unfold hp_N
          rw [q0, q3, q4, q5, if_neg lv, un_n (fun z => x1p z.symm)]
          rw [hp_c1 hl2] at P
          split at P
          · rw [P] at hh
            rw [P, un_s, un_n (by rw [← P]; exact ne)]; omega
          · rw [P] at hh
            rw [P, un_s, un_n (by rw [← P]; exact fun z => ne z.symm)]; omega
      have hole : H2 3 x1 + 1 = H2 3 (H2 4 x1) + H2 3 (H2 5 x1) := by
        have h1 := g1.2.2.2 x1p
        unfold hp_N at h1
        rw [if_neg lv1] at h1
        rw [q3, q4, q5, un_s, un_n ne4, un_n ne5]
        omega
      have E2 : hp_E H2 rt1 ep := hp_Ec o2 q4 q5 q6 q7
      have cc : hp_c H2 x1 k = hp_c H x k := by rw [← cc1]; unfold hp_c; rw [q0, q4, q5]
      have u2 : ∀ c, hp_u H1 c → hp_u H2 c := fun c hc => ⟨hc.1, hc.2.1, by rw [q6]; exact hc.2.2⟩
      have w2 : hp_W H2 rt1 ep k (j + 1) x1 (hp_c H x k) := by
        have h1 : hp_s H2 j (rt1 0) k = x1 := by rw [hp_sc q0 q4 q5]; exact o10.1
        exact ⟨by rw [hp_sn, h1, cc], Or.inr ⟨j, rfl, h1, u2 x1 o4, by rw [q7]; exact o5, by rw [q0]; exact lv1⟩⟩
      have sc1 : hp_S H1 (hp_c H x k) := by rw [← cc1]; exact hp_cS T1 (hp_uS o4)
      have hu2 : hp_u H2 (hp_c H x k) := u2 _ (hp_Su sc1 (by rw [← cc1]; exact cl1.2))
      have lc2 : H2 0 (hp_c H x k) ≤ m := by rw [q0, ← cc1]; have := o6.1; omega
      have hk2 : H2 1 (hp_w H2 16 (hp_c H x k) k) = k := by
        rw [q1, hp_wc q0 q4 q5, ← cc1, ← hp_w16 T1 (hp_uS o4) lv1]
        exact (congrArg Prod.fst (o9 k)).trans hk
      have mm : ∀ c, mp_m H2 c = mp_m H1 c := mp_c3 q0 q1 q2 q4 q5
      have lcn : H2 0 (hp_c H x k) = H 0 (hp_c H x k) := by
        rw [q0]
        exact o11.2 _ sc
      obtain ⟨H', rt', fc', pd', B, hw2⟩ := ih (j + 1) x1 (hp_c H x k) fc1 H2 rt1 pd1 (by omega) lc2 C2 (fun _ => hole) E2 w2 hu2 (fun z => absurd (lcn.symm.trans z) lc) hk2 (by omega) (by rw [mm, o8 0 (by decide)]; exact b24)
      refine ⟨H', rt', fc', pd', bo_t O (bo_c mm B), fun post hp n hn => ?_⟩
      obtain ⟨n, rfl⟩ : ∃ n', n = n' + 1 := ⟨n - 1, by omega⟩
      have ix1 : vp_in (nI x1) 256 := vp_in_nI x18 (by decide)
      refine br_f (nI_ge (b := 16) (by omega) (by decide)) ⟨ic, br_f ?_ (hw _ ⟨ix1, ix1, nm_r (e' := fun i => nI (un_u (H1 3) x1 (H1 3 x1 - 1) i)) ?_ ?_⟩)⟩
      · show ¬ nI (hp_m (H 0 (nI (hp_c H x k)).toNatClampNeg)) = 0
        rw [nI_clamp (by omega)]
        exact nI_ne0 (by have := hp_m0 (l := H 0 (hp_c H x k)); omega) (by omega)
      · rw [nI_clamp (by omega)]
        have h1 : nI (H1 3 x1) - 1 = nI (H1 3 x1 - 1) := pk_sub (b := 1) ge1
        rw [h1]
        exact un_I _ _ _
      · have hh := hw2 post hp n (by omega)
        rw [q] at hh
        refine ch_wp (H := hp_p (H1 0) (H1 1) (H1 2) (un_u (H1 3) x1 (H1 3 x1 - 1)) (H1 4) (H1 5) (H1 6) (H1 7) (H1 8)) c8 (by have := hp_l16 T1 sc1; exact this) (nm_r (nI_1 j) hh)
theorem un_wp {H : Nat → Nat → Nat} {rt : Nat → Nat} {fc : Nat} (e31 : ep < 2 ^ 31) (C : hp_C H rt fc hp_x 0) (E : hp_E H rt ep) (hm : mp_m H (rt 0) k ≠ 0) (hf : 20 ≤ fc) (b24 : cn_c (mp_m H (rt 0)) 65536 ≤ 24) :
    ∃ (H' : Nat → Nat → Nat) (rt' : Nat → Nat) (fc' : Nat) (pd' : Nat → Int32), bo_O H rt ep k 0 H' rt' fc' ∧
      ∀ post : SX → Prop, post (cp, sl, th, (nI fc'), pc, (lN ep), (fun i => nI (hp_m (H' 0 i))), (fun i => nI (H' 1 i)), (fun i => nI (H' 2 i)), (fun i => nI (H' 3 i)), (fun i => nI (H' 4 i)), (fun i => nI (H' 5 i)), (fun i => nI (H' 6 i)), (fun i => lN (H' 7 i)), (fun i => nI (H' 8 i)), pd', pA, pB, (fun i => nI (rt' i)), ca, tk, so, ro, se, ki, ko, vo, ng, nc, st) → wpX_unbind post (cp, sl, th, (nI fc), pc, (lN ep), (fun i => nI (hp_m (H 0 i))), (fun i => nI (H 1 i)), (fun i => nI (H 2 i)), (fun i => nI (H 3 i)), (fun i => nI (H 4 i)), (fun i => nI (H 5 i)), (fun i => nI (H 6 i)), (fun i => lN (H 7 i)), (fun i => nI (H 8 i)), pd, pA, pB, (fun i => nI (rt i)), ca, tk, so, ro, se, ki, ko, vo, ng, nc, st) (nI k) := by
  have T := hp_CT C hp_xz
  have h0 : rt 0 ≠ 0 := fun z => hm (by rw [z]; exact mp_0 T k)
  have hu := hp_ru C hp_xz (s := 0) (by decide) h0
  have w : hp_W H rt ep k 0 0 (rt 0) := ⟨rfl, Or.inl ⟨rfl, rfl⟩⟩
  have l16 := hp_l16 T (hp_uS hu)
  obtain ⟨H', rt', fc', pd', B, hw⟩ := un_l (cp := cp) (sl := sl) (th := th) (pc := pc) (pA := pA) (pB := pB) (ca := ca) (tk := tk) (so := so) (ro := ro) (se := se) (ki := ki) (ko := ko) (vo := vo) (ng := ng) (nc := nc) (st := st) e31 16 0 0 (rt 0) fc H rt pd (by omega) l16 C (fun z => absurd rfl z) E w hu (fun _ => rfl) (mp_w hm).1 (by omega) b24
  refine ⟨H', rt', fc', pd', B, fun post hp => ?_⟩
  unfold wpX_unbind
  exact nm_e (ch_wp hu.2.1 l16 ⟨17, hw post hp 17 (by omega)⟩)
/-- the first leaf -/
theorem bi_e {H Hb : Nat → Nat → Nat} {rt : Nat → Nat} {g d1 : Nat} (C : hp_C H rt (g + 1) hp_x 0) (E : hp_E H rt ep) (h0 : rt 0 = 0) (hk : k < 65536) (hv : v < 2147483648) (hd1 : H 8 g = d1)
    (nb : Hb 0 = un_u (H 0) d1 0 ∧ Hb 1 = un_u (H 1) d1 k ∧ Hb 2 = un_u (H 2) d1 v ∧ Hb 3 = un_u (H 3) d1 1 ∧ Hb 4 = un_u (H 4) d1 0 ∧ Hb 5 = un_u (H 5) d1 0 ∧ Hb 6 = un_u (H 6) d1 1 ∧ Hb 7 = un_u (H 7) d1 ep ∧ Hb 8 = H 8) :
    bo_O H rt ep k (v + 1) Hb (un_u rt 0 d1) g := by
  obtain ⟨m0, m1, m2, m3, m4, m5, m6, m7, m8⟩ := nb
  have T := hp_CT C hp_xz
  obtain ⟨F0, F1, F2, hn1, nl1, nr1⟩ := hp_fd C (hp_xz d1) hd1
  have o1 : ∀ c, c ≠ d1 → Hb 0 c = H 0 c ∧ Hb 1 c = H 1 c ∧ Hb 2 c = H 2 c ∧ Hb 3 c = H 3 c ∧ Hb 4 c = H 4 c ∧ Hb 5 c = H 5 c ∧ Hb 6 c = H 6 c := by
    intro c hc
    rw [m0, m1, m2, m3, m4, m5, m6, un_n hc, un_n hc, un_n hc, un_n hc, un_n hc, un_n hc, un_n hc]
    exact ⟨rfl, rfl, rfl, rfl, rfl, rfl, rfl⟩
  have b4 : Hb 4 d1 = 0 := by rw [m4, un_s]
  have b5 : Hb 5 d1 = 0 := by rw [m5, un_s]
  have b0 : Hb 0 d1 = 0 := by rw [m0, un_s]
  have G1 : hp_G Hb 0 d1 := by
    refine ⟨⟨?_, ?_, ?_, ?_, ?_, ?_⟩, ?_, ?_, ?_⟩
    · rw [b0]; omega
    · rw [m1, un_s]; exact hk
    · rw [b0]; exact Nat.mod_one _
    · rw [m2, un_s]; exact hv
    · intro _; exact ⟨b4, b5⟩
    · intro h hh; rw [b0] at hh; omega
    · rw [b4]; decide
    · rw [b5]; decide
    · intro _
      unfold hp_N
      rw [b0, if_pos rfl, m3, un_s]
  obtain ⟨C1, _, _, N1⟩ := cv_new C hd1 (hp_xz d1) o1 (by rw [m6, un_s]) m8 G1 (by rw [b4]; exact fun z => F0 z.symm) (by rw [b5]; exact fun z => F0 z.symm)
  rw [b4, b5] at C1
  have P1 : hp_P Hb rt 0 k 0 := Or.inl ⟨rfl, h0⟩
  have R : hp_R Hb rt 0 k d1 Hb (un_u rt 0 d1) := Or.inl ⟨rfl, rfl, rfl, rfl⟩
  have C2 : hp_C Hb (un_u rt 0 d1) g hp_x 0 := hp_Cz (cv_rel (e' := 0) C1 P1 R ⟨rfl, rfl, rfl, rfl, rfl, rfl⟩ F1 (fun z => absurd rfl z) (fun z => absurd rfl z) (fun c h _ => h)) (fun c c0 => by
    have : ib_b 0 c = 0 := ib_z (fun z => c0 z.symm)
    rw [this, hp_x0]; omega)
  have ne : ∀ c, hp_S H c → c ≠ d1 := by
    intro c hc
    by_cases c0 : c = 0
    · rw [c0]; exact fun z => F0 z.symm
    · exact (nl1 c (hp_Su hc c0)).1
  have u1 : ∀ c, hp_u Hb c → c ≠ d1 → hp_u H c := fun c hc z => ⟨hc.1, hc.2.1, by rw [← (o1 c z).2.2.2.2.2.2]; exact hc.2.2⟩
  refine ⟨C2, ⟨fun c hc => ?_, fun s s0 s5 hs => ?_⟩, fun s s0 => un_n s0, fun s s0 s5 => ?_, ?_⟩
  · by_cases z : c = d1
    · subst z
      refine ⟨by rw [m7, un_s]; exact Nat.le_refl _, fun y => absurd (by rw [m7, un_s]) y, fun _ => ?_⟩
      have q1 := hp_rn P1 R rfl c
      have q3 := N1 c
      rw [b4, b5, hn1, ib_z (fun z => F0 z.symm)] at q3
      rw [ib_y (a := c) rfl] at q1
      omega
    · have hu := u1 c hc z
      have h1 := o1 c z
      rw [h1.2.2.2.2.1, h1.2.2.2.2.2.1, m7, un_n z, un_n (nl1 c hu).2.1, un_n (nl1 c hu).2.2]
      refine ⟨(E.1 c hu).1, (E.1 c hu).2.1, fun h7 => ?_⟩
      have q1 := hp_rn P1 R rfl c
      have q3 := N1 c
      have q4 := (E.1 c hu).2.2 h7
      rw [b4, b5, ib_z (fun z => hc.1 z.symm)] at q3
      rw [ib_z (fun y => z y.symm)] at q1
      omega
  · rw [un_n s0] at hs ⊢
    rw [m7, un_n (nr1 s s5)]
    exact E.2 s s0 s5 hs
  · rw [un_n s0]
    exact mp_fr (S := hp_S H) (fun c hc => ⟨(T.2.2 c hc).2.1, (T.2.2 c hc).2.2.1⟩) (fun c hc => (o1 c (ne c hc)).1) (fun c hc => (o1 c (ne c hc)).2.1) (fun c hc => (o1 c (ne c hc)).2.2.1) (fun c hc => (o1 c (ne c hc)).2.2.2.2.1) (fun c hc => (o1 c (ne c hc)).2.2.2.2.2.1) (hp_rS C hp_xz s5)
  · funext k'
    rw [un_s, mp_l F0 b0, m1, m2, un_s, un_s]
    by_cases z : k' = k
    · rw [z, if_pos rfl, un_s]
    · rw [un_n z, if_neg (fun y => z y.symm), h0, mp_0 T]
theorem bi_wp {H : Nat → Nat → Nat} {rt : Nat → Nat} {fc : Nat} (hv : v < 2147483648) (hk : k < 65536) (e31 : ep < 2 ^ 31) (C : hp_C H rt fc hp_x 0) (E : hp_E H rt ep) (hf : 20 ≤ fc) (b24 : cn_c (mp_m H (rt 0)) 65536 ≤ 24) :
    ∃ (H' : Nat → Nat → Nat) (rt' : Nat → Nat) (fc' : Nat) (pd' : Nat → Int32), bo_O H rt ep k (v + 1) H' rt' fc' ∧
      ∀ post : SX → Prop, post (cp, sl, th, (nI fc'), pc, (lN ep), (fun i => nI (hp_m (H' 0 i))), (fun i => nI (H' 1 i)), (fun i => nI (H' 2 i)), (fun i => nI (H' 3 i)), (fun i => nI (H' 4 i)), (fun i => nI (H' 5 i)), (fun i => nI (H' 6 i)), (fun i => lN (H' 7 i)), (fun i => nI (H' 8 i)), pd', pA, pB, (fun i => nI (rt' i)), ca, tk, so, ro, se, ki, ko, vo, ng, nc, st) → wpX_bind post (cp, sl, th, (nI fc), pc, (lN ep), (fun i => nI (hp_m (H 0 i))), (fun i => nI (H 1 i)), (fun i => nI (H 2 i)), (fun i => nI (H 3 i)), (fun i => nI (H 4 i)), (fun i => nI (H 5 i)), (fun i => nI (H 6 i)), (fun i => lN (H 7 i)), (fun i => nI (H 8 i)), pd, pA, pB, (fun i => nI (rt i)), ca, tk, so, ro, se, ki, ko, vo, ng, nc, st) (nI k) (nI v) := by
  have T := hp_CT C hp_xz
  have f8 := C.2.2.2.2.2.2
  have s0 := hp_rS C hp_xz (s := 0) (by decide)
  have hw := hp_wE T (k := k) s0
  by_cases h0 : rt 0 = 0
  · obtain ⟨g, rfl⟩ : ∃ g, fc = g + 1 := ⟨fc - 1, by omega⟩
    obtain ⟨d1, hd1⟩ : ∃ d, H 8 g = d := ⟨_, rfl⟩
    have D1 := C.2.2.2.2.1 g (by omega)
    rw [hd1] at D1
    refine ⟨hp_p (un_u (H 0) d1 0) (un_u (H 1) d1 k) (un_u (H 2) d1 v) (un_u (H 3) d1 1) (un_u (H 4) d1 0) (un_u (H 5) d1 0) (un_u (H 6) d1 1) (un_u (H 7) d1 ep) (H 8), un_u rt 0 d1, g, pd, bi_e C E h0 hk hv hd1 ⟨rfl, rfl, rfl, rfl, rfl, rfl, rfl, rfl, rfl⟩, fun post hp => ?_⟩
    unfold wpX_bind
    refine nl_wp T s0 (br_t ?_ (nf_wp hd1 D1.2.1 (by omega) (nm_r (e' := fun i => nI (un_u rt 0 d1 i)) (un_I rt 0 d1) hp)))
    rw [h0, hp_w0 T.1.1]
    rfl
  · have w0 := hw.2.2 h0
    obtain ⟨nk, hnk⟩ : ∃ nk, H 1 (hp_w H 16 (rt 0) k) = nk := ⟨_, rfl⟩
    have w8 := (T.2.2 _ hw.1).1
    have k16 := hp_k16 T hw.1
    rw [hnk] at k16
    have iw : vp_in (nI (hp_w H 16 (rt 0) k)) 256 := vp_in_nI w8 (by decide)
    have cw : (nI (hp_w H 16 (rt 0) k)).toNatClampNeg = hp_w H 16 (rt 0) k := nI_clamp (by omega)
    by_cases e : nk = k
    · obtain ⟨H', rt', fc', pd', B, hw2⟩ := ov_wp (cp := cp) (sl := sl) (th := th) (pc := pc) (pd := pd) (pA := pA) (pB := pB) (ca := ca) (tk := tk) (so := so) (ro := ro) (se := se) (ki := ki) (ko := ko) (vo := vo) (ng := ng) (nc := nc) (st := st) hv e31 C E h0 (hnk.trans e) hf b24
      refine ⟨H', rt', fc', pd', B, fun post hp => ?_⟩
      unfold wpX_bind
      refine nl_wp T s0 (br_f (nI_ne0 (by omega) (by omega)) ⟨iw, br_t ?_ (hw2 _ hp)⟩)
      show nI (H 1 (nI (hp_w H 16 (rt 0) k)).toNatClampNeg) = nI k
      rw [cw, hnk, e]
    · have x0 : nk ^^^ k ≠ 0 := fun z => e (bt_x0 z)
      have x16 : nk ^^^ k < 65536 := Nat.xor_lt_two_pow (n := 16) k16 hk
      obtain ⟨b, hb, t0, t1, hw3⟩ := tb_wp (cp := cp) (sl := sl) (th := th) (pc := pc) (pd := pd) (pA := pA) (pB := pB) (ca := ca) (tk := tk) (so := so) (ro := ro) (se := se) (ki := ki) (ko := ko) (vo := vo) (ng := ng) (nc := nc) (st := st) (ep := ep) (H := H) (rt := rt) (fc := fc) x0 x16
      have t2 := bt_xt t0 t1
      obtain ⟨H', rt', fc', pd', B, hw2⟩ := in_wp (cp := cp) (sl := sl) (th := th) (pc := pc) (pd := pd) (pA := pA) (pB := pB) (ca := ca) (tk := tk) (so := so) (ro := ro) (se := se) (ki := ki) (ko := ko) (vo := vo) (ng := ng) (nc := nc) (st := st) hv e31 hb C E h0 hnk t2.1 t2.2 hk hf b24
      refine ⟨H', rt', fc', pd', B, fun post hp => ?_⟩
      unfold wpX_bind
      have ek : nI (H 1 (nI (hp_w H 16 (rt 0) k)).toNatClampNeg) = nI nk := by rw [cw, hnk]
      refine nl_wp T s0 (br_f (nI_ne0 (by omega) (by omega)) ⟨iw, br_f ?_ ⟨iw, ?_⟩⟩)
      · show ¬ nI (H 1 (nI (hp_w H 16 (rt 0) k)).toNatClampNeg) = nI k
        rw [ek]
        exact fun z => e ((nI_eq (by omega) (by omega)).mp z)
      · dsimp only
        rw [ek, nx_xor]
        exact hw3 _ (hw2 _ hp)
end
end
section
/-! queries of the component: keysBelow, ceiling -/
theorem ge_b (b : Int32) {a : Nat} (h : a < 2 ^ 31) : b ≤ nI a ↔ b.toInt.toNat ≤ a := by
  rw [Int32.le_iff_toInt_le, nI_toInt h]
  omega
theorem lt_b (b : Int32) {a : Nat} (h : a < 2 ^ 31) : nI a < b ↔ a < b.toInt.toNat := by
  rw [Int32.lt_iff_toInt_lt, nI_toInt h]
  omega
theorem cn_eq {f : Nat → Nat} {A B : Nat} (h : ∀ k, f k ≠ 0 → k < A ∧ k < B) : cn_c f A = cn_c f B := by
  by_cases z : A ≤ B
  · exact (cn_top z (fun k hk => Classical.byContradiction (fun y => by have := h k y; omega))).symm
  · exact cn_top (by omega) (fun k hk => Classical.byContradiction (fun y => by have := h k y; omega))
/-- r is the least key from F on where f and g differ, or -1 -/
def nd_R (f g : Nat → Nat) (F : Nat) (r : Int32) : Prop :=
  (r = -1 ∧ ∀ k, F ≤ k → f k = g k) ∨ (∃ k0, r = nI k0 ∧ k0 < 65536 ∧ F ≤ k0 ∧ f k0 ≠ g k0 ∧ ∀ k, F ≤ k → k < k0 → f k = g k)
theorem nd_u {f g : Nat → Nat} {F : Nat} {r r' : Int32} (a : nd_R f g F r) (b : nd_R f g F r') : r = r' := by
  rcases a with ⟨a1, a2⟩ | ⟨k0, a1, a2, a3, a4, a5⟩
  · rcases b with ⟨b1, _⟩ | ⟨k1, b1, b2, b3, b4, b5⟩
    · rw [a1, b1]
    · exact absurd (a2 k1 b3) b4
  · rcases b with ⟨_, b2⟩ | ⟨k1, b1, b2, b3, b4, b5⟩
    · exact absurd (b2 k0 a3) a4
    · have h1 : k0 = k1 := by
        rcases Nat.lt_trichotomy k0 k1 with h | h | h
        · exact absurd (b5 k0 a3 h) a4
        · exact h
        · exact absurd (a5 k1 b3 h) b4
      rw [a1, b1, h1]
theorem nd_c {f g f' g' : Nat → Nat} {F : Nat} {r : Int32} (hf : ∀ k, F ≤ k → f k = f' k) (hg : ∀ k, F ≤ k → g k = g' k) (a : nd_R f g F r) : nd_R f' g' F r := by
  rcases a with ⟨a1, a2⟩ | ⟨k0, a1, a2, a3, a4, a5⟩
  · exact Or.inl ⟨a1, fun k hk => by rw [← hf k hk, ← hg k hk]; exact a2 k hk⟩
  · exact Or.inr ⟨k0, a1, a2, a3, by rw [← hf k0 a3, ← hg k0 a3]; exact a4, fun k hk hl => by rw [← hf k hk, ← hg k hk]; exact a5 k hk hl⟩
theorem nd_s {f g : Nat → Nat} {F : Nat} {r : Int32} (a : nd_R f g F r) : nd_R g f F r := by
  rcases a with ⟨a1, a2⟩ | ⟨k0, a1, a2, a3, a4, a5⟩
  · exact Or.inl ⟨a1, fun k hk => (a2 k hk).symm⟩
  · exact Or.inr ⟨k0, a1, a2, a3, fun z => a4 z.symm, fun k hk hl => (a5 k hk hl).symm⟩
section
variable {H : Nat → Nat → Nat} {S : Nat → Prop}
theorem sd_l (T : hp_T H S) {c l k : Nat} (hc : S c) (hl : H 0 c = l + 1) (h : mp_m H (H 4 c) k ≠ 0) : H 1 c ≤ k ∧ k < H 1 c + 2 ^ l := by
  have h1 := pw_rg (mp_sl T hc hl h)
  rw [← (hp_ev T hc hl).2] at h1
  exact h1
theorem sd_r (T : hp_T H S) {c l k : Nat} (hc : S c) (hl : H 0 c = l + 1) (h : mp_m H (H 5 c) k ≠ 0) : H 1 c + 2 ^ l ≤ k ∧ k < H 1 c + 2 ^ (l + 1) := by
  have h1 := pw_rg (mp_sr T hc hl h)
  rw [Nat.add_mul, Nat.one_mul, ← (hp_ev T hc hl).2] at h1
  rw [Nat.pow_succ]
  omega
theorem cn_lf {c : Nat} (h0 : c ≠ 0) (z : H 0 c = 0) (B : Nat) : cn_c (mp_m H c) B = if H 1 c < B then 1 else 0 := by
  split
  · rename_i h
    have h2 : cn_c (mp_m H c) (H 1 c) = 0 := cn_z (fun k hk => by rw [mp_l h0 z, if_neg (by omega)])
    have h3 : cn_c (mp_m H c) B = cn_c (mp_m H c) (H 1 c + 1) := cn_top (by omega) (fun k hk => by rw [mp_l h0 z, if_neg (by omega)])
    rw [h3, cn_n, h2, mp_l h0 z, if_pos rfl, if_neg (by omega)]
  · rename_i h
    exact cn_z (fun k hk => by rw [mp_l h0 z, if_neg (by omega)])
end
section
variable {cp sl th pc : Int32} {pd pA pB ca tk so ro se ki ko vo ng nc st : Nat → Int32} {H : Nat → Nat → Nat} {rt : Nat → Nat} {fc ep : Nat} {S : Nat → Prop} {bd : Int32}
theorem kb_e (T : hp_T H S) (N : ∀ c, S c → c ≠ 0 → hp_N H c) {post : Int32 → Prop} {c z : Nat} (hc : S c) (lv : H 0 c = 0) (hp : post (nI (z + cn_c (mp_m H c) bd.toInt.toNat))) : wX_keysBelow_86 post bd (nI z) (nI c) cp sl th (nI fc) pc (lN ep) (fun i => nI (hp_m (H 0 i))) (fun i => nI (H 1 i)) (fun i => nI (H 2 i)) (fun i => nI (H 3 i)) (fun i => nI (H 4 i)) (fun i => nI (H 5 i)) (fun i => nI (H 6 i)) (fun i => lN (H 7 i)) (fun i => nI (H 8 i)) pd pA pB (fun i => nI (rt i)) ca tk so ro se ki ko vo ng nc st := by
  have c8 := (T.2.2 c hc).1
  have k16 := hp_k16 T hc
  have ic : vp_in (nI c) 256 := vp_in_nI c8 (by decide)
  have cc : (nI c).toNatClampNeg = c := nI_clamp (by omega)
  unfold wX_keysBelow_86
  dsimp only
  rw [cc]
  refine ⟨ic, ?_⟩
  by_cases c0 : c = 0
  · rw [c0, cn_z (fun k _ => mp_0 T k), Nat.add_zero] at hp
    rw [c0, T.1.2.2.1]
    refine br_c (fun _ => hp) (fun _ => ⟨vp_in_nI (n := 0) (by decide) (by decide), ?_⟩)
    rw [nI_add]
    exact hp
  · rw [cn_lf c0 lv] at hp
    have n1 := N c hc c0
    unfold hp_N at n1
    rw [if_pos lv] at n1
    rw [n1]
    refine br_c (fun h => ?_) (fun h => ⟨ic, ?_⟩)
    · rw [ge_b bd (by omega)] at h
      rw [if_neg (by omega)] at hp
      exact hp
    · rw [ge_b bd (by omega)] at h
      rw [if_pos (by omega)] at hp
      rw [nI_add]
      exact hp
theorem kb_l (T : hp_T H S) (N : ∀ c, S c → c ≠ 0 → hp_N H c) {post : Int32 → Prop} : ∀ m j c z, m + j = 16 → H 0 c ≤ m → S c → post (nI (z + cn_c (mp_m H c) bd.toInt.toNat)) → ∀ n, m < n → wX_keysBelow_8 post bd cp sl th (nI fc) pc (lN ep) (fun i => nI (hp_m (H 0 i))) (fun i => nI (H 1 i)) (fun i => nI (H 2 i)) (fun i => nI (H 3 i)) (fun i => nI (H 4 i)) (fun i => nI (H 5 i)) (fun i => nI (H 6 i)) (fun i => lN (H 7 i)) (fun i => nI (H 8 i)) pd pA pB (fun i => nI (rt i)) ca tk so ro se ki ko vo ng nc st n (nI z) (nI c) (nI j) := by
  intro m
  induction m with
  | zero =>
    intro j c z hj hl hc hp n hn
    obtain ⟨n, rfl⟩ : ∃ n', n = n' + 1 := ⟨n - 1, by omega⟩
    exact br_t (nI_le (a := 16) (by omega) (by omega)) (kb_e T N hc (by omega) hp)
  | succ m ih =>
    intro j c z hj hl hc hp n hn
    obtain ⟨n, rfl⟩ : ∃ n', n = n' + 1 := ⟨n - 1, by omega⟩
    have c8 := (T.2.2 c hc).1
    have ic : vp_in (nI c) 256 := vp_in_nI c8 (by decide)
    have cc : (nI c).toNatClampNeg = c := nI_clamp (by omega)
    have l16 := hp_l16 T hc
    have lm := hp_mb l16
    refine br_f (nI_ge (b := 16) (by omega) (by decide)) ⟨ic, ?_⟩
    dsimp only
    rw [cc]
    by_cases lv : H 0 c = 0
    · exact br_t (by rw [lv]; rfl) (kb_e T N hc lv hp)
    · obtain ⟨l, hl2⟩ : ∃ l, H 0 c = l + 1 := ⟨H 0 c - 1, by omega⟩
      have q := (hp_qs T hc hl2).2
      have g := q.2.2.2.2.2 l hl2
      have s4 := (T.2.2 c hc).2.1
      have s5 := (T.2.2 c hc).2.2.1
      have p15 := pw_15 (h := l) (by omega)
      have k16 := q.2.1
      have orr : nI (H 1 c) ||| nI (hp_m (H 0 c)) = nI (H 1 c + 2 ^ l) := by
        rw [nx_or, hl2]
        apply congrArg nI
        have h1 := q.2.2.1
        rw [hl2] at h1
        exact bt_or h1
      refine br_f (nI_ne0 (by have := hp_m0 (l := H 0 c); omega) (by omega)) ⟨ic, ic, ?_⟩
      rw [orr]
      rw [cn_add _ (fun k => (mp_a T hc hl2 k).1) (fun k => (mp_a T hc hl2 k).2)] at hp
      refine br_c (fun h => ⟨ic, nm_e (nm_r (nI_1 j) ?_)⟩) (fun h => ⟨ic, ?_, ?_⟩)
      · rw [ge_b bd (by omega)] at h
        have h2 : cn_c (mp_m H (H 5 c)) bd.toInt.toNat = 0 := cn_z (fun k hk => Classical.byContradiction (fun y => by
          have := sd_r T hc hl2 y
          omega))
        rw [h2, Nat.add_zero] at hp
        exact ih (j + 1) _ z (by omega) (by omega) s4 hp n (by omega)
      · exact vp_in_nI (T.2.2 _ s4).1 (by decide)
      · rw [ge_b bd (by omega)] at h
        have cl : (nI (H 4 c)).toNatClampNeg = H 4 c := nI_clamp (by have := (T.2.2 _ s4).1; omega)
        have h2 : cn_c (mp_m H (H 4 c)) bd.toInt.toNat = H 3 (H 4 c) := by
          rw [mp_n T N 16 _ (hp_l16 T s4) s4]
          exact cn_eq (fun k y => by
            have := sd_l T hc hl2 y
            have := mp_lt T s4 y
            omega)
        rw [h2, ← Nat.add_assoc] at hp
        refine nm_r (e' := nI (z + H 3 (H 4 c))) (by rw [cl, nI_add]) ⟨ic, nm_e (nm_r (nI_1 j) ?_)⟩
        exact ih (j + 1) _ _ (by omega) (by omega) s5 hp n (by omega)
theorem kb_wp (T : hp_T H S) (N : ∀ c, S c → c ≠ 0 → hp_N H c) {post : Int32 → Prop} {c : Nat} (hc : S c) (hp : post (nI (cn_c (mp_m H c) bd.toInt.toNat))) : wpX_keysBelow post (cp, sl, th, (nI fc), pc, (lN ep), (fun i => nI (hp_m (H 0 i))), (fun i => nI (H 1 i)), (fun i => nI (H 2 i)), (fun i => nI (H 3 i)), (fun i => nI (H 4 i)), (fun i => nI (H 5 i)), (fun i => nI (H 6 i)), (fun i => lN (H 7 i)), (fun i => nI (H 8 i)), pd, pA, pB, (fun i => nI (rt i)), ca, tk, so, ro, se, ki, ko, vo, ng, nc, st) (nI c) bd := by
  unfold wpX_keysBelow
  exact ⟨17, kb_l T N 16 0 c 0 (by omega) (hp_l16 T hc) hc (by rw [Nat.zero_add]; exact hp) 17 (by omega)⟩
theorem ce_l (T : hp_T H S) (N : ∀ c, S c → c ≠ 0 → hp_N H c) : ∀ m j c z, m + j = 16 → H 0 c ≤ m → S c → z < H 3 c → ∃ k0, mp_m H c k0 ≠ 0 ∧ cn_c (mp_m H c) k0 = z ∧ ∀ post : Int32 → Prop, post (nI k0) → ∀ n, m < n → wX_ceiling_25 post cp sl th (nI fc) pc (lN ep) (fun i => nI (hp_m (H 0 i))) (fun i => nI (H 1 i)) (fun i => nI (H 2 i)) (fun i => nI (H 3 i)) (fun i => nI (H 4 i)) (fun i => nI (H 5 i)) (fun i => nI (H 6 i)) (fun i => lN (H 7 i)) (fun i => nI (H 8 i)) pd pA pB (fun i => nI (rt i)) ca tk so ro se ki ko vo ng nc st n (nI z) (nI c) (nI j) := by
  have lf : ∀ c z, S c → H 0 c = 0 → z < H 3 c → mp_m H c (H 1 c) ≠ 0 ∧ cn_c (mp_m H c) (H 1 c) = z := by
    intro c z hc lv hz
    have c0 : c ≠ 0 := fun y => by rw [y, T.1.2.2.1] at hz; omega
    have n1 := N c hc c0
    unfold hp_N at n1
    rw [if_pos lv] at n1
    rw [cn_lf c0 lv, if_neg (by omega), mp_l c0 lv, if_pos rfl]
    omega
  intro m
  induction m with
  | zero =>
    intro j c z hj hl hc hz
    have h1 := lf c z hc (by omega) hz
    have c8 := (T.2.2 c hc).1
    have cc : (nI c).toNatClampNeg = c := nI_clamp (by omega)
    refine ⟨H 1 c, h1.1, h1.2, fun post hp n hn => ?_⟩
    obtain ⟨n, rfl⟩ : ∃ n', n = n' + 1 := ⟨n - 1, by omega⟩
    refine br_t (nI_le (a := 16) (by omega) (by omega)) ⟨vp_in_nI c8 (by decide), ?_⟩
    dsimp only
    rw [cc]
    exact hp
  | succ m ih =>
    intro j c z hj hl hc hz
    have c8 := (T.2.2 c hc).1
    have ic : vp_in (nI c) 256 := vp_in_nI c8 (by decide)
    have cc : (nI c).toNatClampNeg = c := nI_clamp (by omega)
    have l16 := hp_l16 T hc
    have lm := hp_mb l16
    by_cases lv : H 0 c = 0
    · have h1 := lf c z hc lv hz
      refine ⟨H 1 c, h1.1, h1.2, fun post hp n hn => ?_⟩
      obtain ⟨n, rfl⟩ : ∃ n', n = n' + 1 := ⟨n - 1, by omega⟩
      refine br_f (nI_ge (b := 16) (by omega) (by decide)) ⟨ic, br_t ?_ ⟨ic, ?_⟩⟩
      · dsimp only
        rw [cc, lv]
        rfl
      · dsimp only
        rw [cc]
        exact hp
    · obtain ⟨l, hl2⟩ : ∃ l, H 0 c = l + 1 := ⟨H 0 c - 1, by omega⟩
      have q := (hp_qs T hc hl2)
      have g := q.2.2.2.2.2.2 l hl2
      have n1 := N c hc q.1
      unfold hp_N at n1
      rw [if_neg lv] at n1
      have s4 := (T.2.2 c hc).2.1
      have s5 := (T.2.2 c hc).2.2.1
      have i4 : vp_in (nI (H 4 c)) 256 := vp_in_nI (T.2.2 _ s4).1 (by decide)
      have cl : (nI (H 4 c)).toNatClampNeg = H 4 c := nI_clamp (by have := (T.2.2 _ s4).1; omega)
      have b4 := cn_bd (mp_m H (H 4 c)) 65536
      have b5 := cn_bd (mp_m H (H 5 c)) 65536
      rw [← mp_n T N 16 _ (hp_l16 T s4) s4] at b4
      rw [← mp_n T N 16 _ (hp_l16 T s5) s5] at b5
      have add := fun B => cn_add (f := mp_m H (H 4 c)) (g := mp_m H (H 5 c)) (h := mp_m H c) B (fun k => (mp_a T hc hl2 k).1) (fun k => (mp_a T hc hl2 k).2)
      by_cases hlo : H 3 (H 4 c) ≤ z
      · obtain ⟨k0, h1, h2, hw⟩ := ih (j + 1) (H 5 c) (z - H 3 (H 4 c)) (by omega) (by omega) s5 (by omega)
        refine ⟨k0, ?_, ?_, fun post hp n hn => ?_⟩
        · rw [(mp_a T hc hl2 k0).1]; omega
        · have h3 := sd_r T hc hl2 h1
          have h4 : cn_c (mp_m H (H 4 c)) k0 = H 3 (H 4 c) := by
            rw [mp_n T N 16 _ (hp_l16 T s4) s4]
            exact cn_eq (fun k y => by
              have := sd_l T hc hl2 y
              have := mp_lt T s4 y
              omega)
          rw [add, h4, h2]
          omega
        · obtain ⟨n, rfl⟩ : ∃ n', n = n' + 1 := ⟨n - 1, by omega⟩
          refine br_f (nI_ge (b := 16) (by omega) (by decide)) ⟨ic, ?_⟩
          dsimp only
          rw [cc, cl]
          refine br_f (nI_ne0 (by have := hp_m0 (l := H 0 c); omega) (by omega)) ⟨ic, i4, nm_e (br_t (nI_le hlo (by omega)) (nm_r (pk_sub hlo) ⟨ic, nm_e (nm_r (nI_1 j) ?_)⟩))⟩
          exact hw post hp n (by omega)
      · obtain ⟨k0, h1, h2, hw⟩ := ih (j + 1) (H 4 c) z (by omega) (by omega) s4 (by omega)
        refine ⟨k0, ?_, ?_, fun post hp n hn => ?_⟩
        · rw [(mp_a T hc hl2 k0).1]; omega
        · have h3 := sd_l T hc hl2 h1
          have h4 : cn_c (mp_m H (H 5 c)) k0 = 0 := cn_z (fun k hk => Classical.byContradiction (fun y => by
            have := sd_r T hc hl2 y
            omega))
          rw [add, h4, h2]
          omega
        · obtain ⟨n, rfl⟩ : ∃ n', n = n' + 1 := ⟨n - 1, by omega⟩
          refine br_f (nI_ge (b := 16) (by omega) (by decide)) ⟨ic, ?_⟩
          dsimp only
          rw [cc, cl]
          refine br_f (nI_ne0 (by have := hp_m0 (l := H 0 c); omega) (by omega)) ⟨ic, i4, nm_e (br_f (nI_ge (by omega) (by omega)) ⟨ic, nm_e (nm_r (nI_1 j) ?_)⟩)⟩
          exact hw post hp n (by omega)
theorem ce_wp (T : hp_T H S) (N : ∀ c, S c → c ≠ 0 → hp_N H c) {c : Nat} (hc : S c) : ∃ r, nd_R (mp_m H c) (fun _ => 0) bd.toInt.toNat r ∧ ∀ post : Int32 → Prop, post r → wpX_ceiling post (cp, sl, th, (nI fc), pc, (lN ep), (fun i => nI (hp_m (H 0 i))), (fun i => nI (H 1 i)), (fun i => nI (H 2 i)), (fun i => nI (H 3 i)), (fun i => nI (H 4 i)), (fun i => nI (H 5 i)), (fun i => nI (H 6 i)), (fun i => lN (H 7 i)), (fun i => nI (H 8 i)), pd, pA, pB, (fun i => nI (rt i)), ca, tk, so, ro, se, ki, ko, vo, ng, nc, st) (nI c) bd := by
  have c8 := (T.2.2 c hc).1
  have ic : vp_in (nI c) 256 := vp_in_nI c8 (by decide)
  have cc : (nI c).toNatClampNeg = c := nI_clamp (by omega)
  have h3 := mp_n T N 16 c (hp_l16 T hc) hc
  have b1 := cn_bd (mp_m H c) 65536
  have b2 : cn_c (mp_m H c) bd.toInt.toNat ≤ 65536 := by
    by_cases z : bd.toInt.toNat ≤ 65536
    · exact Nat.le_trans (cn_le z) b1
    · rw [cn_top (a := 65536) (by omega) (fun k hk => Classical.byContradiction (fun y => by have := mp_lt T hc y; omega))]
      exact b1
  by_cases z : cn_c (mp_m H c) bd.toInt.toNat < H 3 c
  · obtain ⟨k0, h1, h2, hw⟩ := ce_l (cp := cp) (sl := sl) (th := th) (pc := pc) (pd := pd) (pA := pA) (pB := pB) (ca := ca) (tk := tk) (so := so) (ro := ro) (se := se) (ki := ki) (ko := ko) (vo := vo) (ng := ng) (nc := nc) (st := st) (ep := ep) (rt := rt) (fc := fc) T N 16 0 c _ (by omega) (hp_l16 T hc) hc z
    have F0 : bd.toInt.toNat ≤ k0 := by
      apply Classical.byContradiction
      intro y
      have := cn_lt (f := mp_m H c) (k := k0) (b := bd.toInt.toNat) (by omega) h1
      omega
    refine ⟨nI k0, Or.inr ⟨k0, rfl, mp_lt T hc h1, F0, h1, fun k hk hl => ?_⟩, fun post hp => ?_⟩
    · apply Classical.byContradiction
      intro y
      have h4 := cn_le (f := mp_m H c) hk
      have h5 := cn_lt (f := mp_m H c) hl y
      omega
    · unfold wpX_ceiling
      refine kb_wp T N hc ⟨ic, br_t ?_ ⟨17, hw post hp 17 (by omega)⟩⟩
      dsimp only
      rw [cc]
      exact nI_lt z (by omega)
  · refine ⟨-1, Or.inl ⟨rfl, fun k hk => ?_⟩, fun post hp => ?_⟩
    · apply Classical.byContradiction
      intro y
      have h4 := cn_le (f := mp_m H c) hk
      have h5 := cn_lt (f := mp_m H c) (mp_lt T hc y) y
      omega
    · unfold wpX_ceiling
      refine kb_wp T N hc ⟨ic, br_f ?_ hp⟩
      dsimp only
      rw [cc]
      exact nI_nlt (by omega) (by omega)
end
end
section
/-! nextDiff of the component: splitting a pair -/
def bn_b (H : Nat → Nat → Nat) (a b k : Nat) : Prop := mp_m H a k ≠ 0 ∨ mp_m H b k ≠ 0
def sp_P (H : Nat → Nat → Nat) (S : Nat → Prop) (x y a1 b1 a2 b2 : Nat) : Prop :=
  (∀ k, mp_m H x k ≠ mp_m H y k ↔ (mp_m H a1 k ≠ mp_m H b1 k ∨ mp_m H a2 k ≠ mp_m H b2 k)) ∧
  (∀ k, bn_b H a1 b1 k → bn_b H x y k) ∧ (∀ k, bn_b H a2 b2 k → bn_b H x y k) ∧ (∀ k k', bn_b H a1 b1 k → bn_b H a2 b2 k' → k < k') ∧
  H 3 a1 + H 3 b1 ≠ 0 ∧ H 3 a2 + H 3 b2 ≠ 0 ∧ H 3 x + H 3 y = (H 3 a1 + H 3 b1) + (H 3 a2 + H 3 b2) ∧ S a1 ∧ S b1 ∧ S a2 ∧ S b2
theorem sp_y {H : Nat → Nat → Nat} {S : Nat → Prop} {x y a1 b1 a2 b2 : Nat} (h : sp_P H S x y a1 b1 a2 b2) : sp_P H S y x a1 b1 a2 b2 := by
  obtain ⟨h1, h2, h3, h4, h5, h6, h7, h8⟩ := h
  exact ⟨fun k => ⟨fun z => (h1 k).mp (fun w => z w.symm), fun z w => (h1 k).mpr z w.symm⟩, fun k z => (h2 k z).symm, fun k z => (h3 k z).symm, h4, h5, h6, by omega, h8⟩
section
variable {H : Nat → Nat → Nat} {S : Nat → Prop} {w n l : Nat}
theorem c1_p (T : hp_T H S) (N : ∀ c, S c → c ≠ 0 → hp_N H c) {c : Nat} (hc : S c) (h0 : c ≠ 0) : H 3 c ≠ 0 := by
  have := hp_ll T N 16 c hc (hp_l16 T hc) h0
  omega
theorem pw_lt {a b l : Nat} (h : a / 2 ^ l < b / 2 ^ l) : a < b := by
  apply Classical.byContradiction
  intro z
  have := Nat.div_le_div_right (c := 2 ^ l) (show b ≤ a by omega)
  omega
theorem pw_mn {a b l : Nat} (h : a ≤ b) : a / 2 ^ l ≤ b / 2 ^ l := Nat.div_le_div_right h
/-- ranges apart -/
theorem sp_d (T : hp_T H S) (N : ∀ c, S c → c ≠ 0 → hp_N H c) (hw : S w) (hn : S n) (n0 : n ≠ 0) (hl : H 0 w = l + 1) (ln : H 0 n ≤ l + 1) (ne : H 1 w / 2 ^ (l + 1) ≠ H 1 n / 2 ^ (l + 1)) :
    (H 1 n ≤ H 1 w → sp_P H S w n n 0 w 0) ∧ (¬ H 1 n ≤ H 1 w → sp_P H S w n w 0 n 0) := by
  have w0 := (hp_qs T hw hl).1
  have rw' : ∀ k, mp_m H w k ≠ 0 → k / 2 ^ (l + 1) = H 1 w / 2 ^ (l + 1) := by
    intro k h
    have := mp_r T hw w0 h
    rw [hl] at this
    exact this
  have rn : ∀ k, mp_m H n k ≠ 0 → k / 2 ^ (l + 1) = H 1 n / 2 ^ (l + 1) := fun k h => pw_le ln (mp_r T hn n0 h)
  have dis : ∀ k, mp_m H w k = 0 ∨ mp_m H n k = 0 := by
    intro k
    by_cases z : mp_m H w k = 0
    · exact Or.inl z
    · right
      apply Classical.byContradiction
      intro y
      exact ne ((rw' k z).symm.trans (rn k y))
  have z0 : ∀ c k, bn_b H c 0 k → mp_m H c k ≠ 0 := by
    intro c k h
    rcases h with h | h
    · exact h
    · exact absurd (mp_0 T k) h
  have h30 := T.1.2.2.1
  have cw := c1_p T N hw w0
  have cn := c1_p T N hn n0
  constructor
  · intro hle
    refine ⟨fun k => ?_, fun k h => Or.inr (z0 _ _ h), fun k h => Or.inl (z0 _ _ h), fun k k' h h' => ?_, by omega, by omega, by omega, hn, T.2.1, hw, T.2.1⟩
    · rw [mp_0 T]
      have := dis k
      omega
    · have h1 := rn k (z0 _ _ h)
      have h2 := rw' k' (z0 _ _ h')
      have h3 := pw_mn (l := l + 1) hle
      exact pw_lt (l := l + 1) (by omega)
  · intro hle
    refine ⟨fun k => ?_, fun k h => Or.inl (z0 _ _ h), fun k h => Or.inr (z0 _ _ h), fun k k' h h' => ?_, by omega, by omega, by omega, hw, T.2.1, hn, T.2.1⟩
    · rw [mp_0 T]
      have := dis k
      omega
    · have h1 := rw' k (z0 _ _ h)
      have h2 := rn k' (z0 _ _ h')
      have h3 := pw_mn (l := l + 1) (show H 1 w ≤ H 1 n by omega)
      exact pw_lt (l := l + 1) (by omega)
/-- the same bit -/
theorem sp_s (T : hp_T H S) (N : ∀ c, S c → c ≠ 0 → hp_N H c) (hw : S w) (hn : S n) (hl : H 0 w = l + 1) (ln : H 0 n = l + 1) (e : H 1 w / 2 ^ (l + 1) = H 1 n / 2 ^ (l + 1)) :
    sp_P H S w n (H 4 w) (H 4 n) (H 5 w) (H 5 n) := by
  have w0 := (hp_qs T hw hl).1
  have n0 := (hp_qs T hn ln).1
  have ew := (hp_ev T hw hl).1
  have en := (hp_ev T hn ln).1
  rw [pw_s, pw_s] at e
  have e2 : H 1 w / 2 ^ l = H 1 n / 2 ^ l := by omega
  have g := (hp_qs T hw hl).2.2.2.2.2.2 l hl
  have g' := (hp_qs T hn ln).2.2.2.2.2.2 l ln
  have lo : ∀ k, bn_b H (H 4 w) (H 4 n) k → k / 2 ^ l = H 1 w / 2 ^ l := by
    intro k h
    rcases h with h | h
    · exact mp_sl T hw hl h
    · rw [e2]; exact mp_sl T hn ln h
  have hi : ∀ k, bn_b H (H 5 w) (H 5 n) k → k / 2 ^ l = H 1 w / 2 ^ l + 1 := by
    intro k h
    rcases h with h | h
    · exact mp_sr T hw hl h
    · rw [e2]; exact mp_sr T hn ln h
  have nw := N w hw w0
  have nn := N n hn n0
  unfold hp_N at nw nn
  rw [if_neg (by omega)] at nw nn
  have c1 := c1_p T N (T.2.2 w hw).2.1 g.1
  have c2 := c1_p T N (T.2.2 w hw).2.2.1 g.2.1
  refine ⟨fun k => ?_, fun k h => ?_, fun k h => ?_, fun k k' h h' => ?_, by omega, by omega, by omega, (T.2.2 w hw).2.1, (T.2.2 n hn).2.1, (T.2.2 w hw).2.2.1, (T.2.2 n hn).2.2.1⟩
  · rw [(mp_a T hw hl k).1, (mp_a T hn ln k).1]
    by_cases a : bn_b H (H 4 w) (H 4 n) k
    · have nh : ¬ bn_b H (H 5 w) (H 5 n) k := fun b => by have := lo k a; have := hi k b; omega
      unfold bn_b at nh
      omega
    · unfold bn_b at a
      omega
  · unfold bn_b at h ⊢
    rw [(mp_a T hw hl k).1, (mp_a T hn ln k).1]
    omega
  · unfold bn_b at h ⊢
    rw [(mp_a T hw hl k).1, (mp_a T hn ln k).1]
    omega
  · have := lo k h
    have := hi k' h'
    exact pw_lt (l := l) (by omega)
/-- the narrow one below the wide one -/
theorem sp_n (T : hp_T H S) (N : ∀ c, S c → c ≠ 0 → hp_N H c) (hw : S w) (hn : S n) (n0 : n ≠ 0) (hl : H 0 w = l + 1) (ln : H 0 n ≤ l) (e : H 1 w / 2 ^ (l + 1) = H 1 n / 2 ^ (l + 1)) :
    (H 1 n / 2 ^ l % 2 = 1 → sp_P H S w n (H 4 w) 0 (H 5 w) n) ∧ (¬ H 1 n / 2 ^ l % 2 = 1 → sp_P H S w n (H 4 w) n (H 5 w) 0) := by
  have w0 := (hp_qs T hw hl).1
  have ew := (hp_ev T hw hl).1
  rw [pw_s, pw_s] at e
  have g := (hp_qs T hw hl).2.2.2.2.2.2 l hl
  have lo := fun k (h : mp_m H (H 4 w) k ≠ 0) => mp_sl T hw hl h
  have hi := fun k (h : mp_m H (H 5 w) k ≠ 0) => mp_sr T hw hl h
  have rn : ∀ k, mp_m H n k ≠ 0 → k / 2 ^ l = H 1 n / 2 ^ l := fun k h => pw_le ln (mp_r T hn n0 h)
  have nw := N w hw w0
  unfold hp_N at nw
  rw [if_neg (by omega)] at nw
  have c1 := c1_p T N (T.2.2 w hw).2.1 g.1
  have c2 := c1_p T N (T.2.2 w hw).2.2.1 g.2.1
  have h30 := T.1.2.2.1
  have mz := fun k => mp_0 T k
  constructor
  · intro b
    refine ⟨fun k => ?_, fun k h => ?_, fun k h => ?_, fun k k' h h' => ?_, by omega, by omega, by omega, (T.2.2 w hw).2.1, T.2.1, (T.2.2 w hw).2.2.1, hn⟩
    · rw [(mp_a T hw hl k).1, mz k]
      by_cases a : mp_m H (H 4 w) k = 0
      · omega
      · have h1 := lo k a
        have h2 : mp_m H (H 5 w) k = 0 := Classical.byContradiction (fun y => by have := hi k y; omega)
        have h3 : mp_m H n k = 0 := Classical.byContradiction (fun y => by have := rn k y; omega)
        omega
    · unfold bn_b at h ⊢
      rw [(mp_a T hw hl k).1]
      rw [mz k] at h
      omega
    · unfold bn_b at h ⊢
      rw [(mp_a T hw hl k).1]
      omega
    · have h1 : k / 2 ^ l = H 1 w / 2 ^ l := by
        rcases h with h | h
        · exact lo k h
        · exact absurd (mz k) h
      have h2 : k' / 2 ^ l = H 1 w / 2 ^ l + 1 := by
        rcases h' with h' | h'
        · exact hi k' h'
        · have := rn k' h'
          omega
      exact pw_lt (l := l) (by omega)
  · intro b
    refine ⟨fun k => ?_, fun k h => ?_, fun k h => ?_, fun k k' h h' => ?_, by omega, by omega, by omega, (T.2.2 w hw).2.1, hn, (T.2.2 w hw).2.2.1, T.2.1⟩
    · rw [(mp_a T hw hl k).1, mz k]
      by_cases a : mp_m H (H 5 w) k = 0
      · omega
      · have h1 := hi k a
        have h2 : mp_m H (H 4 w) k = 0 := Classical.byContradiction (fun y => by have := lo k y; omega)
        have h3 : mp_m H n k = 0 := Classical.byContradiction (fun y => by have := rn k y; omega)
        omega
    · unfold bn_b at h ⊢
      rw [(mp_a T hw hl k).1]
      omega
    · unfold bn_b at h ⊢
      rw [(mp_a T hw hl k).1]
      rw [mz k] at h
      omega
    · have h1 : k / 2 ^ l = H 1 w / 2 ^ l := by
        rcases h with h | h
        · exact lo k h
        · have := rn k h
          omega
      have h2 : k' / 2 ^ l = H 1 w / 2 ^ l + 1 := by
        rcases h' with h' | h'
        · exact hi k' h'
        · exact absurd (mz k') h'
      exact pw_lt (l := l) (by omega)
end
section
variable {cp sl th pc : Int32} {pd pA pB ca tk so ro se ki ko vo ng nc st : Nat → Int32} {H : Nat → Nat → Nat} {rt : Nat → Nat} {fc ep q : Nat} {S : Nat → Prop}
theorem pp_wp {post : SX → Prop} {x y : Int32} (hq : q < 64) (h : post (cp, sl, th, (nI fc), (nI (q + 1)), (lN ep), (fun i => nI (hp_m (H 0 i))), (fun i => nI (H 1 i)), (fun i => nI (H 2 i)), (fun i => nI (H 3 i)), (fun i => nI (H 4 i)), (fun i => nI (H 5 i)), (fun i => nI (H 6 i)), (fun i => lN (H 7 i)), (fun i => nI (H 8 i)), pd, (upd pA q x), (upd pB q y), (fun i => nI (rt i)), ca, tk, so, ro, se, ki, ko, vo, ng, nc, st)) : wpX_pushPair post (cp, sl, th, (nI fc), (nI q), (lN ep), (fun i => nI (hp_m (H 0 i))), (fun i => nI (H 1 i)), (fun i => nI (H 2 i)), (fun i => nI (H 3 i)), (fun i => nI (H 4 i)), (fun i => nI (H 5 i)), (fun i => nI (H 6 i)), (fun i => lN (H 7 i)), (fun i => nI (H 8 i)), pd, pA, pB, (fun i => nI (rt i)), ca, tk, so, ro, se, ki, ko, vo, ng, nc, st) x y := by
  unfold wpX_pushPair
  have iq : vp_in (nI q) 64 := vp_in_nI hq (by decide)
  have cq : (nI q).toNatClampNeg = q := nI_clamp (by omega)
  refine br_f (nI_ge (b := 64) (by omega) (by decide)) ⟨iq, nm_r (e' := upd pA q x) (by rw [cq]) ⟨iq, nm_r (e' := upd pB q y) (by rw [cq]) (nm_r (nI_1 q) h)⟩⟩
/-- two pairs more -/
theorem sw_wp (T : hp_T H S) (N : ∀ c, S c → c ≠ 0 → hp_N H c) {w n : Nat} (hw : S w) (hn : S n) (n0 : n ≠ 0) (lw : H 0 w ≠ 0) (ln : H 0 n ≤ H 0 w) (hq : q + 1 < 64) :
    ∃ a1 b1 a2 b2, sp_P H S w n a1 b1 a2 b2 ∧ ∀ post : SX → Prop, post (cp, sl, th, (nI fc), (nI (q + 1 + 1)), (lN ep), (fun i => nI (hp_m (H 0 i))), (fun i => nI (H 1 i)), (fun i => nI (H 2 i)), (fun i => nI (H 3 i)), (fun i => nI (H 4 i)), (fun i => nI (H 5 i)), (fun i => nI (H 6 i)), (fun i => lN (H 7 i)), (fun i => nI (H 8 i)), pd, (upd (upd pA q (nI a2)) (q + 1) (nI a1)), (upd (upd pB q (nI b2)) (q + 1) (nI b1)), (fun i => nI (rt i)), ca, tk, so, ro, se, ki, ko, vo, ng, nc, st) → wX_splitPair_31 post (nI w) (nI n) cp sl th (nI fc) (nI q) (lN ep) (fun i => nI (hp_m (H 0 i))) (fun i => nI (H 1 i)) (fun i => nI (H 2 i)) (fun i => nI (H 3 i)) (fun i => nI (H 4 i)) (fun i => nI (H 5 i)) (fun i => nI (H 6 i)) (fun i => lN (H 7 i)) (fun i => nI (H 8 i)) pd pA pB (fun i => nI (rt i)) ca tk so ro se ki ko vo ng nc st := by
  obtain ⟨l, hl⟩ : ∃ l, H 0 w = l + 1 := ⟨H 0 w - 1, by omega⟩
  have w8 := (T.2.2 w hw).1
  have n8 := (T.2.2 n hn).1
  have iw : vp_in (nI w) 256 := vp_in_nI w8 (by decide)
  have inn : vp_in (nI n) 256 := vp_in_nI n8 (by decide)
  have cw : (nI w).toNatClampNeg = w := nI_clamp (by omega)
  have cn : (nI n).toNatClampNeg = n := nI_clamp (by omega)
  have l16 := hp_l16 T hw
  have kw := hp_k16 T hw
  have kn := hp_k16 T hn
  have p15 := pw_15 (h := l) (by omega)
  have p16 := pw_16 (h := l + 1) (by omega)
  have mw : hp_m (H 0 w) = 2 ^ l := by rw [hl]; rfl
  have two : (2 : Int32) * nI (2 ^ l) = nI (2 ^ (l + 1)) := by
    have h2 : (2 : Int32) * nI (2 ^ l) = nI (2 * 2 ^ l) := pk_mul 2 (2 ^ l)
    rw [h2, Nat.pow_succ, Nat.mul_comm]
  have xl : H 1 w ^^^ H 1 n < 65536 := Nat.xor_lt_two_pow (n := 16) kw kn
  have lm := hp_mb (hp_l16 T hn)
  by_cases e : H 1 w / 2 ^ (l + 1) = H 1 n / 2 ^ (l + 1)
  · have lt := bt_xl.mpr e
    by_cases eq : H 0 n = l + 1
    · refine ⟨_, _, _, _, sp_s T N hw hn hl eq e, fun post hp => ?_⟩
      unfold wX_splitPair_31
      dsimp only
      rw [cw, cn, mw]
      refine ⟨iw, nm_e ⟨iw, inn, ?_⟩⟩
      rw [two, nx_xor]
      refine br_t (nI_lt lt (by omega)) ⟨inn, br_t (by rw [eq]; rfl) ⟨iw, inn, pp_wp (by omega) ⟨iw, inn, pp_wp hq hp⟩⟩⟩
    · have ln2 : H 0 n ≤ l := by omega
      have bb : (nI (H 1 n) &&& nI (2 ^ l)) = 0 ↔ ¬ (l + 1 ≠ 0 ∧ H 1 n / 2 ^ l % 2 = 1) := bt_0 (l := l + 1) (by omega)
      have mne : ¬ nI (hp_m (H 0 n)) = nI (2 ^ l) := by
        intro z
        have h1 := (nI_eq (by omega) (by omega)).mp z
        have h2 := (hp_mle (a := l + 1) (b := H 0 n)).mp (by show 2 ^ l ≤ _; omega)
        omega
      by_cases b : H 1 n / 2 ^ l % 2 = 1
      · refine ⟨_, _, _, _, (sp_n T N hw hn n0 hl ln2 e).1 b, fun post hp => ?_⟩
        unfold wX_splitPair_31
        dsimp only
        rw [cw, cn, mw]
        refine ⟨iw, nm_e ⟨iw, inn, ?_⟩⟩
        rw [two, nx_xor]
        refine br_t (nI_lt lt (by omega)) ⟨inn, br_f mne ⟨inn, br_f (fun z => bb.mp z ⟨by omega, b⟩) ?_⟩⟩
        unfold wX_splitPair_187
        refine ⟨iw, br_f (by decide) ?_⟩
        unfold wX_splitPair_207
        dsimp only
        rw [cw]
        refine pp_wp (by omega) ⟨iw, br_f (by decide) ?_⟩
        unfold wX_splitPair_228
        exact pp_wp hq hp
      · refine ⟨_, _, _, _, (sp_n T N hw hn n0 hl ln2 e).2 b, fun post hp => ?_⟩
        unfold wX_splitPair_31
        dsimp only
        rw [cw, cn, mw]
        refine ⟨iw, nm_e ⟨iw, inn, ?_⟩⟩
        rw [two, nx_xor]
        refine br_t (nI_lt lt (by omega)) ⟨inn, br_f mne ⟨inn, br_t (bb.mpr (fun z => b z.2)) ?_⟩⟩
        unfold wX_splitPair_187
        refine ⟨iw, br_t rfl ?_⟩
        unfold wX_splitPair_207
        dsimp only
        rw [cw]
        refine pp_wp (by omega) ⟨iw, br_t rfl ?_⟩
        unfold wX_splitPair_228
        exact pp_wp hq hp
  · have nlt : ¬ H 1 w ^^^ H 1 n < 2 ^ (l + 1) := fun z => e (bt_xl.mp z)
    by_cases o : H 1 n ≤ H 1 w
    · refine ⟨_, _, _, _, (sp_d T N hw hn n0 hl (by omega) e).1 o, fun post hp => ?_⟩
      unfold wX_splitPair_31
      dsimp only
      rw [cw, cn, mw]
      refine ⟨iw, nm_e ⟨iw, inn, ?_⟩⟩
      rw [two, nx_xor]
      refine br_f (nI_nlt (by omega) (by omega)) ⟨iw, inn, br_t (nI_le o (by omega)) ?_⟩
      unfold wX_splitPair_83
      refine br_t rfl ?_
      unfold wX_splitPair_97
      refine pp_wp (by omega) (br_t rfl ?_)
      unfold wX_splitPair_113
      exact pp_wp hq hp
    · refine ⟨_, _, _, _, (sp_d T N hw hn n0 hl (by omega) e).2 o, fun post hp => ?_⟩
      unfold wX_splitPair_31
      dsimp only
      rw [cw, cn, mw]
      refine ⟨iw, nm_e ⟨iw, inn, ?_⟩⟩
      rw [two, nx_xor]
      refine br_f (nI_nlt (by omega) (by omega)) ⟨iw, inn, br_f (nI_ge (by omega) (by omega)) ?_⟩
      unfold wX_splitPair_83
      refine br_f (by decide) ?_
      unfold wX_splitPair_97
      refine pp_wp (by omega) (br_f (by decide) ?_)
      unfold wX_splitPair_113
      exact pp_wp hq hp
theorem sx_wp (T : hp_T H S) (N : ∀ c, S c → c ≠ 0 → hp_N H c) {x y : Nat} (hx : S x) (hy : S y) (x0 : x ≠ 0) (y0 : y ≠ 0) (ne : x ≠ y) (nl : ¬ (H 0 x = 0 ∧ H 0 y = 0)) (hq : q + 1 < 64) :
    ∃ a1 b1 a2 b2, sp_P H S x y a1 b1 a2 b2 ∧ ∀ post : SX → Prop, post (cp, sl, th, (nI fc), (nI (q + 1 + 1)), (lN ep), (fun i => nI (hp_m (H 0 i))), (fun i => nI (H 1 i)), (fun i => nI (H 2 i)), (fun i => nI (H 3 i)), (fun i => nI (H 4 i)), (fun i => nI (H 5 i)), (fun i => nI (H 6 i)), (fun i => lN (H 7 i)), (fun i => nI (H 8 i)), pd, (upd (upd pA q (nI a2)) (q + 1) (nI a1)), (upd (upd pB q (nI b2)) (q + 1) (nI b1)), (fun i => nI (rt i)), ca, tk, so, ro, se, ki, ko, vo, ng, nc, st) → wpX_splitPair post (cp, sl, th, (nI fc), (nI q), (lN ep), (fun i => nI (hp_m (H 0 i))), (fun i => nI (H 1 i)), (fun i => nI (H 2 i)), (fun i => nI (H 3 i)), (fun i => nI (H 4 i)), (fun i => nI (H 5 i)), (fun i => nI (H 6 i)), (fun i => lN (H 7 i)), (fun i => nI (H 8 i)), pd, pA, pB, (fun i => nI (rt i)), ca, tk, so, ro, se, ki, ko, vo, ng, nc, st) (nI x) (nI y) := by
  have x8 := (T.2.2 x hx).1
  have y8 := (T.2.2 y hy).1
  have ix : vp_in (nI x) 256 := vp_in_nI x8 (by decide)
  have iy : vp_in (nI y) 256 := vp_in_nI y8 (by decide)
  have cx : (nI x).toNatClampNeg = x := nI_clamp (by omega)
  have cy : (nI y).toNatClampNeg = y := nI_clamp (by omega)
  have mx := hp_mb (hp_l16 T hx)
  have my := hp_mb (hp_l16 T hy)
  have le : hp_m (H 0 y) ≤ hp_m (H 0 x) ↔ H 0 y ≤ H 0 x := hp_mle
  by_cases h : H 0 y ≤ H 0 x
  · obtain ⟨a1, b1, a2, b2, P, hw⟩ := sw_wp (cp := cp) (sl := sl) (th := th) (pd := pd) (pA := pA) (pB := pB) (ca := ca) (tk := tk) (so := so) (ro := ro) (se := se) (ki := ki) (ko := ko) (vo := vo) (ng := ng) (nc := nc) (st := st) (ep := ep) (rt := rt) (fc := fc) T N hx hy y0 (by omega) h hq
    refine ⟨a1, b1, a2, b2, P, fun post hp => ?_⟩
    unfold wpX_splitPair
    dsimp only
    rw [cx, cy]
    refine ⟨ix, iy, br_f (nI_nlt (le.mpr h) (by omega)) ?_⟩
    unfold wX_splitPair_20
    exact br_t rfl (hw post hp)
  · obtain ⟨a1, b1, a2, b2, P, hw⟩ := sw_wp (cp := cp) (sl := sl) (th := th) (pd := pd) (pA := pA) (pB := pB) (ca := ca) (tk := tk) (so := so) (ro := ro) (se := se) (ki := ki) (ko := ko) (vo := vo) (ng := ng) (nc := nc) (st := st) (ep := ep) (rt := rt) (fc := fc) T N hy hx x0 (by omega) (by omega) hq
    refine ⟨a1, b1, a2, b2, sp_y P, fun post hp => ?_⟩
    unfold wpX_splitPair
    dsimp only
    rw [cx, cy]
    refine ⟨ix, iy, br_t (nI_lt (by omega) (by omega)) ?_⟩
    unfold wX_splitPair_20
    exact br_f (fun z => ne ((nI_eq (by omega) (by omega)).mp z).symm) (hw post hp)
end
end
section
/-! nextDiff of the component: the loop -/
section
variable {cp sl th pc : Int32} {pd pA pB ca tk so ro se ki ko vo ng nc st : Nat → Int32} {H : Nat → Nat → Nat} {rt : Nat → Nat} {fc ep q : Nat} {S : Nat → Prop} {bd : Int32}
theorem pr_wp (T : hp_T H S) {c : Nat} (hc : S c) : ∃ x, ((x = c ∧ (H 0 c = 0 → bd.toInt.toNat ≤ H 1 c)) ∨ (x = 0 ∧ ∀ k, bd.toInt.toNat ≤ k → mp_m H c k = 0)) ∧ ∀ post : Int32 → Prop, post (nI x) → wpX_prune post (cp, sl, th, (nI fc), pc, (lN ep), (fun i => nI (hp_m (H 0 i))), (fun i => nI (H 1 i)), (fun i => nI (H 2 i)), (fun i => nI (H 3 i)), (fun i => nI (H 4 i)), (fun i => nI (H 5 i)), (fun i => nI (H 6 i)), (fun i => lN (H 7 i)), (fun i => nI (H 8 i)), pd, pA, pB, (fun i => nI (rt i)), ca, tk, so, ro, se, ki, ko, vo, ng, nc, st) (nI c) bd := by
  have c8 := (T.2.2 c hc).1
  have ic : vp_in (nI c) 256 := vp_in_nI c8 (by decide)
  have cc : (nI c).toNatClampNeg = c := nI_clamp (by omega)
  have k16 := hp_k16 T hc
  have l16 := hp_l16 T hc
  by_cases lv : H 0 c = 0
  · by_cases le : bd.toInt.toNat ≤ H 1 c
    · refine ⟨c, Or.inl ⟨rfl, fun _ => le⟩, fun post hp => ?_⟩
      unfold wpX_prune
      dsimp only
      rw [cc, lv]
      refine ⟨ic, nm_e (br_t rfl ⟨ic, ?_⟩)⟩
      unfold wX_prune_32
      exact br_t ((ge_b bd (by omega)).mpr le) hp
    · refine ⟨0, Or.inr ⟨rfl, fun k hk => ?_⟩, fun post hp => ?_⟩
      · by_cases c0 : c = 0
        · rw [c0]; exact mp_0 T k
        · rw [mp_l c0 lv, if_neg (by omega)]
      · unfold wpX_prune
        dsimp only
        rw [cc, lv]
        refine ⟨ic, nm_e (br_t rfl ⟨ic, ?_⟩)⟩
        unfold wX_prune_32
        exact br_f (fun z => le ((ge_b bd (by omega)).mp z)) hp
  · obtain ⟨l, hl⟩ : ∃ l, H 0 c = l + 1 := ⟨H 0 c - 1, by omega⟩
    have q := (hp_qs T hc hl)
    have p15 := pw_15 (h := l) (by omega)
    have pp := pw_p l
    have p16 : 2 ^ (l + 1) = 2 * 2 ^ l := by rw [Nat.pow_succ, Nat.mul_comm]
    have mw : hp_m (H 0 c) = 2 ^ l := by rw [hl]; rfl
    have two : (2 : Int32) * nI (2 ^ l) - 1 = nI (2 ^ (l + 1) - 1) := by
      have h2 : (2 : Int32) * nI (2 ^ l) = nI (2 * 2 ^ l) := pk_mul 2 (2 ^ l)
      have h3 : nI (2 * 2 ^ l) - 1 = nI (2 * 2 ^ l - 1) := pk_sub (b := 1) (by omega)
      rw [h2, h3, p16]
    have hi : nI (H 1 c) ||| nI (2 ^ (l + 1) - 1) = nI (H 1 c + (2 ^ (l + 1) - 1)) := by
      rw [nx_or]
      apply congrArg nI
      have h1 := q.2.2.2.1
      rw [hl] at h1
      exact bt_or1 h1
    by_cases le : bd.toInt.toNat ≤ H 1 c + (2 ^ (l + 1) - 1)
    · refine ⟨c, Or.inl ⟨rfl, fun z => absurd z lv⟩, fun post hp => ?_⟩
      unfold wpX_prune
      dsimp only
      rw [cc, mw]
      refine ⟨ic, nm_e (br_f (nI_ne0 pp (by omega)) ⟨ic, ?_⟩)⟩
      rw [two, hi]
      unfold wX_prune_32
      exact br_t ((ge_b bd (by omega)).mpr le) hp
    · refine ⟨0, Or.inr ⟨rfl, fun k hk => ?_⟩, fun post hp => ?_⟩
      · apply Classical.byContradiction
        intro y
        have h1 := mp_r T hc q.1 y
        rw [hl] at h1
        have h2 := pw_rg h1
        have h3 := pw_rg (k := H 1 c) (h := l + 1) rfl
        omega
      · unfold wpX_prune
        dsimp only
        rw [cc, mw]
        refine ⟨ic, nm_e (br_f (nI_ne0 pp (by omega)) ⟨ic, ?_⟩)⟩
        rw [two, hi]
        unfold wX_prune_32
        exact br_f (fun z => le ((ge_b bd (by omega)).mp z)) hp
theorem ld_wp (T : hp_T H S) {x y F : Nat} (hx : S x) (hy : S y) (x0 : x ≠ 0) (y0 : y ≠ 0) (lx : H 0 x = 0) (ly : H 0 y = 0) (fx : F ≤ H 1 x) (fy : F ≤ H 1 y) :
    ∃ r, nd_R (mp_m H x) (mp_m H y) F r ∧ ∀ post : Int32 → Prop, post r → wpX_leafDiff post (cp, sl, th, (nI fc), pc, (lN ep), (fun i => nI (hp_m (H 0 i))), (fun i => nI (H 1 i)), (fun i => nI (H 2 i)), (fun i => nI (H 3 i)), (fun i => nI (H 4 i)), (fun i => nI (H 5 i)), (fun i => nI (H 6 i)), (fun i => lN (H 7 i)), (fun i => nI (H 8 i)), pd, pA, pB, (fun i => nI (rt i)), ca, tk, so, ro, se, ki, ko, vo, ng, nc, st) (nI x) (nI y) := by
  have x8 := (T.2.2 x hx).1
  have y8 := (T.2.2 y hy).1
  have ix : vp_in (nI x) 256 := vp_in_nI x8 (by decide)
  have iy : vp_in (nI y) 256 := vp_in_nI y8 (by decide)
  have cx : (nI x).toNatClampNeg = x := nI_clamp (by omega)
  have cy : (nI y).toNatClampNeg = y := nI_clamp (by omega)
  have kx := hp_k16 T hx
  have ky := hp_k16 T hy
  have vx := ((T.2.2 x hx).2.2.2 x0).2.2.2.1
  have vy := ((T.2.2 y hy).2.2.2 y0).2.2.2.1
  have mx := fun k => mp_l (k := k) x0 lx
  have my := fun k => mp_l (k := k) y0 ly
  by_cases e : H 1 x = H 1 y
  · by_cases v : H 2 x = H 2 y
    · refine ⟨-1, Or.inl ⟨rfl, fun k _ => by rw [mx, my, e, v]⟩, fun post hp => ?_⟩
      unfold wpX_leafDiff
      dsimp only
      rw [cx, cy]
      exact ⟨ix, iy, br_t (by rw [e]) ⟨ix, iy, br_t (by rw [v]) hp⟩⟩
    · refine ⟨nI (H 1 x), Or.inr ⟨H 1 x, rfl, kx, fx, ?_, fun k _ hk => ?_⟩, fun post hp => ?_⟩
      · rw [mx, my, if_pos rfl, if_pos e.symm]; omega
      · rw [mx, my, if_neg (by omega), if_neg (by omega)]
      · unfold wpX_leafDiff
        dsimp only
        rw [cx, cy]
        exact ⟨ix, iy, br_t (by rw [e]) ⟨ix, iy, br_f (fun z => v ((nI_eq (by omega) (by omega)).mp z)) ⟨ix, hp⟩⟩⟩
  · have ne : ¬ nI (H 1 x) = nI (H 1 y) := fun z => e ((nI_eq (by omega) (by omega)).mp z)
    by_cases o : H 1 y ≤ H 1 x
    · refine ⟨nI (H 1 y), Or.inr ⟨H 1 y, rfl, ky, fy, ?_, fun k _ hk => ?_⟩, fun post hp => ?_⟩
      · rw [mx, my, if_pos rfl, if_neg e]; omega
      · rw [mx, my, if_neg (by omega), if_neg (by omega)]
      · unfold wpX_leafDiff
        dsimp only
        rw [cx, cy]
        exact ⟨ix, iy, br_f ne ⟨ix, iy, br_t (nI_le o (by omega)) ⟨iy, hp⟩⟩⟩
    · refine ⟨nI (H 1 x), Or.inr ⟨H 1 x, rfl, kx, fx, ?_, fun k _ hk => ?_⟩, fun post hp => ?_⟩
      · rw [mx, my, if_pos rfl, if_neg (fun z => e z.symm)]; omega
      · rw [mx, my, if_neg (by omega), if_neg (by omega)]
      · unfold wpX_leafDiff
        dsimp only
        rw [cx, cy]
        exact ⟨ix, iy, br_f ne ⟨ix, iy, br_f (nI_ge (by omega) (by omega)) ⟨ix, hp⟩⟩⟩
theorem cp_wp (T : hp_T H S) (N : ∀ c, S c → c ≠ 0 → hp_N H c) {a b : Nat} (ha : S a) (hb : S b) (hq : q + 1 < 64) :
    ∃ (r : Int32) (q' : Nat) (pA' pB' : Nat → Int32), ((q' = q ∧ pA' = pA ∧ pB' = pB ∧ nd_R (mp_m H a) (mp_m H b) bd.toInt.toNat r) ∨ (r = -1 ∧ q' = q + 1 + 1 ∧ ∃ a1 b1 a2 b2, sp_P H S a b a1 b1 a2 b2 ∧ pA' = upd (upd pA q (nI a2)) (q + 1) (nI a1) ∧ pB' = upd (upd pB q (nI b2)) (q + 1) (nI b1))) ∧
      ∀ post : Int32 → SX → Prop, post r (cp, sl, th, (nI fc), (nI q'), (lN ep), (fun i => nI (hp_m (H 0 i))), (fun i => nI (H 1 i)), (fun i => nI (H 2 i)), (fun i => nI (H 3 i)), (fun i => nI (H 4 i)), (fun i => nI (H 5 i)), (fun i => nI (H 6 i)), (fun i => lN (H 7 i)), (fun i => nI (H 8 i)), pd, pA', pB', (fun i => nI (rt i)), ca, tk, so, ro, se, ki, ko, vo, ng, nc, st) → wpX_comparePair post (cp, sl, th, (nI fc), (nI q), (lN ep), (fun i => nI (hp_m (H 0 i))), (fun i => nI (H 1 i)), (fun i => nI (H 2 i)), (fun i => nI (H 3 i)), (fun i => nI (H 4 i)), (fun i => nI (H 5 i)), (fun i => nI (H 6 i)), (fun i => lN (H 7 i)), (fun i => nI (H 8 i)), pd, pA, pB, (fun i => nI (rt i)), ca, tk, so, ro, se, ki, ko, vo, ng, nc, st) (nI a) (nI b) bd := by
  obtain ⟨x, hx, wx⟩ := pr_wp (cp := cp) (sl := sl) (th := th) (pc := nI q) (pd := pd) (pA := pA) (pB := pB) (ca := ca) (tk := tk) (so := so) (ro := ro) (se := se) (ki := ki) (ko := ko) (vo := vo) (ng := ng) (nc := nc) (st := st) (ep := ep) (rt := rt) (fc := fc) (bd := bd) T ha
  obtain ⟨y, hy, wy⟩ := pr_wp (cp := cp) (sl := sl) (th := th) (pc := nI q) (pd := pd) (pA := pA) (pB := pB) (ca := ca) (tk := tk) (so := so) (ro := ro) (se := se) (ki := ki) (ko := ko) (vo := vo) (ng := ng) (nc := nc) (st := st) (ep := ep) (rt := rt) (fc := fc) (bd := bd) T hb
  have sx : S x := by
    rcases hx with h | h
    · rw [h.1]; exact ha
    · rw [h.1]; exact T.2.1
  have sy : S y := by
    rcases hy with h | h
    · rw [h.1]; exact hb
    · rw [h.1]; exact T.2.1
  have ex : ∀ k, bd.toInt.toNat ≤ k → mp_m H x k = mp_m H a k := by
    intro k hk
    rcases hx with h | h
    · rw [h.1]
    · rw [h.1, mp_0 T, h.2 k hk]
  have ey : ∀ k, bd.toInt.toNat ≤ k → mp_m H y k = mp_m H b k := by
    intro k hk
    rcases hy with h | h
    · rw [h.1]
    · rw [h.1, mp_0 T, h.2 k hk]
  have x8 := (T.2.2 x sx).1
  have y8 := (T.2.2 y sy).1
  have ix : vp_in (nI x) 256 := vp_in_nI x8 (by decide)
  have iy : vp_in (nI y) 256 := vp_in_nI y8 (by decide)
  have cx : (nI x).toNatClampNeg = x := nI_clamp (by omega)
  have cy : (nI y).toNatClampNeg = y := nI_clamp (by omega)
  have mx := hp_mb (hp_l16 T sx)
  have my := hp_mb (hp_l16 T sy)
  by_cases e : x = y
  · refine ⟨-1, q, pA, pB, Or.inl ⟨rfl, rfl, rfl, Or.inl ⟨rfl, fun k hk => ?_⟩⟩, fun post hp => ?_⟩
    · rw [← ex k hk, ← ey k hk, e]
    · unfold wpX_comparePair
      exact wx _ (wy _ (br_t (by rw [e]) hp))
  · have ne : ¬ nI x = nI y := fun z => e ((nI_eq (by omega) (by omega)).mp z)
    by_cases x0 : x = 0
    · obtain ⟨r, hr, hw⟩ := ce_wp (cp := cp) (sl := sl) (th := th) (pc := nI q) (pd := pd) (pA := pA) (pB := pB) (ca := ca) (tk := tk) (so := so) (ro := ro) (se := se) (ki := ki) (ko := ko) (vo := vo) (ng := ng) (nc := nc) (st := st) (ep := ep) (rt := rt) (fc := fc) (bd := bd) T N sy
      refine ⟨r, q, pA, pB, Or.inl ⟨rfl, rfl, rfl, nd_c (f := fun _ => 0) (g := mp_m H y) (fun k hk => ?_) ey (nd_s hr)⟩, fun post hp => ?_⟩
      · rw [← ex k hk, x0, mp_0 T]
      · unfold wpX_comparePair
        exact wx _ (wy _ (br_f ne (br_t (by rw [x0]; rfl) (hw _ hp))))
    · have xn : ¬ nI x = 0 := nI_ne0 (by omega) (by omega)
      by_cases y0 : y = 0
      · obtain ⟨r, hr, hw⟩ := ce_wp (cp := cp) (sl := sl) (th := th) (pc := nI q) (pd := pd) (pA := pA) (pB := pB) (ca := ca) (tk := tk) (so := so) (ro := ro) (se := se) (ki := ki) (ko := ko) (vo := vo) (ng := ng) (nc := nc) (st := st) (ep := ep) (rt := rt) (fc := fc) (bd := bd) T N sx
        refine ⟨r, q, pA, pB, Or.inl ⟨rfl, rfl, rfl, nd_c (f := mp_m H x) (g := fun _ => 0) ex (fun k hk => ?_) hr⟩, fun post hp => ?_⟩
        · rw [← ey k hk, y0, mp_0 T]
        · unfold wpX_comparePair
          exact wx _ (wy _ (br_f ne (br_f xn (br_t (by rw [y0]; rfl) (hw _ hp)))))
      · have yn : ¬ nI y = 0 := nI_ne0 (by omega) (by omega)
        have xa : x = a ∧ (H 0 a = 0 → bd.toInt.toNat ≤ H 1 a) := by
          rcases hx with h | h
          · exact h
          · exact absurd h.1 x0
        have yb : y = b ∧ (H 0 b = 0 → bd.toInt.toNat ≤ H 1 b) := by
          rcases hy with h | h
          · exact h
          · exact absurd h.1 y0
        by_cases lv : H 0 x = 0 ∧ H 0 y = 0
        · obtain ⟨r, hr, hw⟩ := ld_wp (cp := cp) (sl := sl) (th := th) (pc := nI q) (pd := pd) (pA := pA) (pB := pB) (ca := ca) (tk := tk) (so := so) (ro := ro) (se := se) (ki := ki) (ko := ko) (vo := vo) (ng := ng) (nc := nc) (st := st) (ep := ep) (rt := rt) (fc := fc) (F := bd.toInt.toNat) T sx sy x0 y0 lv.1 lv.2 (by rw [xa.1]; exact xa.2 (by rw [← xa.1]; exact lv.1)) (by rw [yb.1]; exact yb.2 (by rw [← yb.1]; exact lv.2))
          refine ⟨r, q, pA, pB, Or.inl ⟨rfl, rfl, rfl, nd_c ex ey hr⟩, fun post hp => ?_⟩
          unfold wpX_comparePair
          refine wx _ (wy _ (br_f ne (br_f xn (br_f yn ⟨ix, br_t ?_ ⟨iy, br_t ?_ (hw _ hp)⟩⟩))))
          · dsimp only
            rw [cx, lv.1]
            rfl
          · dsimp only
            rw [cy, lv.2]
            rfl
        · obtain ⟨a1, b1, a2, b2, P, hw⟩ := sx_wp (cp := cp) (sl := sl) (th := th) (pd := pd) (pA := pA) (pB := pB) (ca := ca) (tk := tk) (so := so) (ro := ro) (se := se) (ki := ki) (ko := ko) (vo := vo) (ng := ng) (nc := nc) (st := st) (ep := ep) (rt := rt) (fc := fc) T N sx sy x0 y0 e lv hq
          rw [xa.1, yb.1] at P
          refine ⟨-1, q + 1 + 1, _, _, Or.inr ⟨rfl, rfl, a1, b1, a2, b2, P, rfl, rfl⟩, fun post hp => ?_⟩
          have h80 : wX_comparePair_80 post (nI x) (nI y) cp sl th (nI fc) (nI q) (lN ep) (fun i => nI (hp_m (H 0 i))) (fun i => nI (H 1 i)) (fun i => nI (H 2 i)) (fun i => nI (H 3 i)) (fun i => nI (H 4 i)) (fun i => nI (H 5 i)) (fun i => nI (H 6 i)) (fun i => lN (H 7 i)) (fun i => nI (H 8 i)) pd pA pB (fun i => nI (rt i)) ca tk so ro se ki ko vo ng nc st := by
            unfold wX_comparePair_80
            exact hw _ hp
          unfold wpX_comparePair
          refine wx _ (wy _ (br_f ne (br_f xn (br_f yn ⟨ix, ?_⟩))))
          dsimp only
          rw [cx, cy]
          refine br_c (fun z => ⟨iy, br_f ?_ h80⟩) (fun _ => h80)
          have z2 : H 0 x = 0 := by
            apply Classical.byContradiction
            intro w
            exact nI_ne0 (by have := hp_m0 (l := H 0 x); omega) (by omega) z
          have w2 : H 0 y ≠ 0 := fun w => lv ⟨z2, w⟩
          exact nI_ne0 (by have := hp_m0 (l := H 0 y); omega) (by omega)
def wt_w (n : Nat) : Nat := if n = 0 then 1 else n
theorem wt_1 (n : Nat) : 1 ≤ wt_w n := by unfold wt_w; split <;> omega
theorem nd_f {post : Int32 → SX → Prop} {n : Nat} {r x5 : Int32} (h : ¬ r = -1) (hp : post r (cp, sl, th, (nI fc), pc, (lN ep), (fun i => nI (hp_m (H 0 i))), (fun i => nI (H 1 i)), (fun i => nI (H 2 i)), (fun i => nI (H 3 i)), (fun i => nI (H 4 i)), (fun i => nI (H 5 i)), (fun i => nI (H 6 i)), (fun i => lN (H 7 i)), (fun i => nI (H 8 i)), pd, pA, pB, (fun i => nI (rt i)), ca, tk, so, ro, se, ki, ko, vo, ng, nc, st)) : wX_nextDiff_50 post bd (n + 1) r x5 cp sl th (nI fc) pc (lN ep) (fun i => nI (hp_m (H 0 i))) (fun i => nI (H 1 i)) (fun i => nI (H 2 i)) (fun i => nI (H 3 i)) (fun i => nI (H 4 i)) (fun i => nI (H 5 i)) (fun i => nI (H 6 i)) (fun i => lN (H 7 i)) (fun i => nI (H 8 i)) pd pA pB (fun i => nI (rt i)) ca tk so ro se ki ko vo ng nc st :=
  br_c (fun _ => hp) (fun _ => br_c (fun _ => hp) (fun _ => br_f h hp))
theorem nd_l (T : hp_T H S) (N : ∀ c, S c → c ≠ 0 → hp_N H c) {f g : Nat → Nat} : ∀ (m q pops : Nat) (pA pB : Nat → Int32) (fa fb : Nat → Nat),
    2 * sm_s (fun i => wt_w (H 3 (fa i) + H 3 (fb i))) q ≤ m + q → m + pops ≤ 200 → q ≤ sm_s (fun i => wt_w (H 3 (fa i) + H 3 (fb i))) q → sm_s (fun i => wt_w (H 3 (fa i) + H 3 (fb i))) q ≤ 48 →
    (∀ i, i < q → pA i = nI (fa i) ∧ pB i = nI (fb i) ∧ S (fa i) ∧ S (fb i)) →
    (∀ k, bd.toInt.toNat ≤ k → (f k ≠ g k ↔ ∃ i, i < q ∧ mp_m H (fa i) k ≠ mp_m H (fb i) k)) →
    (∀ i j, i < j → j < q → ∀ k k', bn_b H (fa j) (fb j) k → bn_b H (fa i) (fb i) k' → k < k') →
    ∃ (r pc' : Int32) (pA' pB' : Nat → Int32), nd_R f g bd.toInt.toNat r ∧ ∀ post : Int32 → SX → Prop, post r (cp, sl, th, (nI fc), pc', (lN ep), (fun i => nI (hp_m (H 0 i))), (fun i => nI (H 1 i)), (fun i => nI (H 2 i)), (fun i => nI (H 3 i)), (fun i => nI (H 4 i)), (fun i => nI (H 5 i)), (fun i => nI (H 6 i)), (fun i => lN (H 7 i)), (fun i => nI (H 8 i)), pd, pA', pB', (fun i => nI (rt i)), ca, tk, so, ro, se, ki, ko, vo, ng, nc, st) → ∀ n, m < n → wX_nextDiff_50 post bd n (-1) (nI pops) cp sl th (nI fc) (nI q) (lN ep) (fun i => nI (hp_m (H 0 i))) (fun i => nI (H 1 i)) (fun i => nI (H 2 i)) (fun i => nI (H 3 i)) (fun i => nI (H 4 i)) (fun i => nI (H 5 i)) (fun i => nI (H 6 i)) (fun i => lN (H 7 i)) (fun i => nI (H 8 i)) pd pA pB (fun i => nI (rt i)) ca tk so ro se ki ko vo ng nc st := by
  intro m
  induction m with
  | zero =>
    intro q pops pA pB fa fb hm hp hq1 hq2 hP D O
    have q0 : q = 0 := by omega
    subst q0
    refine ⟨-1, nI 0, pA, pB, Or.inl ⟨rfl, fun k hk => ?_⟩, fun post hpost n hn => ?_⟩
    · apply Classical.byContradiction
      intro y
      obtain ⟨i, hi, _⟩ := (D k hk).mp y
      omega
    · obtain ⟨n, rfl⟩ : ∃ n', n = n' + 1 := ⟨n - 1, by omega⟩
      exact br_f (nI_ge (b := 256) (by omega) (by decide)) (br_t (nI_le (a := 0) (b := 0) (by omega) (by decide)) hpost)
  | succ m ih =>
    intro q pops pA pB fa fb hm hp hq1 hq2 hP D O
    cases q with
    | zero =>
      refine ⟨-1, nI 0, pA, pB, Or.inl ⟨rfl, fun k hk => ?_⟩, fun post hpost n hn => ?_⟩
      · apply Classical.byContradiction
        intro y
        obtain ⟨i, hi, _⟩ := (D k hk).mp y
        omega
      · obtain ⟨n, rfl⟩ : ∃ n', n = n' + 1 := ⟨n - 1, by omega⟩
        exact br_f (nI_ge (b := 256) (by omega) (by decide)) (br_t (nI_le (a := 0) (b := 0) (by omega) (by decide)) hpost)
    | succ t =>
      have ht := hP t (by omega)
      have sW : sm_s (fun i => wt_w (H 3 (fa i) + H 3 (fb i))) (t + 1) = sm_s (fun i => wt_w (H 3 (fa i) + H 3 (fb i))) t + wt_w (H 3 (fa t) + H 3 (fb t)) := rfl
      have w1 := wt_1 (H 3 (fa t) + H 3 (fb t))
      have tW : t ≤ sm_s (fun i => wt_w (H 3 (fa i) + H 3 (fb i))) t := by
        have h8 := sm_mono (f := fun _ => 1) (g := fun i => wt_w (H 3 (fa i) + H 3 (fb i))) (n := t) (fun i _ => wt_1 _)
        have h9 := sm_c1 t
        omega
      have it : vp_in (nI t) 64 := vp_in_nI (by omega) (by decide)
      have ct : (nI t).toNatClampNeg = t := nI_clamp (by omega)
      obtain ⟨r, q', pA1, pB1, hc, hw⟩ := cp_wp (cp := cp) (sl := sl) (th := th) (pd := pd) (pA := pA) (pB := pB) (ca := ca) (tk := tk) (so := so) (ro := ro) (se := se) (ki := ki) (ko := ko) (vo := vo) (ng := ng) (nc := nc) (st := st) (ep := ep) (rt := rt) (fc := fc) (bd := bd) (q := t) T N ht.2.2.1 ht.2.2.2 (by omega)
      have step : ∀ (post : Int32 → SX → Prop) (n : Nat), wX_nextDiff_50 post bd n r (nI (pops + 1)) cp sl th (nI fc) (nI q') (lN ep) (fun i => nI (hp_m (H 0 i))) (fun i => nI (H 1 i)) (fun i => nI (H 2 i)) (fun i => nI (H 3 i)) (fun i => nI (H 4 i)) (fun i => nI (H 5 i)) (fun i => nI (H 6 i)) (fun i => lN (H 7 i)) (fun i => nI (H 8 i)) pd pA1 pB1 (fun i => nI (rt i)) ca tk so ro se ki ko vo ng nc st → wX_nextDiff_50 post bd (n + 1) (-1) (nI pops) cp sl th (nI fc) (nI (t + 1)) (lN ep) (fun i => nI (hp_m (H 0 i))) (fun i => nI (H 1 i)) (fun i => nI (H 2 i)) (fun i => nI (H 3 i)) (fun i => nI (H 4 i)) (fun i => nI (H 5 i)) (fun i => nI (H 6 i)) (fun i => lN (H 7 i)) (fun i => nI (H 8 i)) pd pA pB (fun i => nI (rt i)) ca tk so ro se ki ko vo ng nc st := by
        intro post n h
        refine br_f (nI_ge (b := 256) (by omega) (by decide)) (br_f (nI_nle (by omega) (by omega)) (br_t rfl (nm_r (nI_pred t) ⟨it, it, ?_⟩)))
        rw [ct, ht.1, ht.2.1]
        exact hw _ (nm_r (nI_1 pops) h)
      rcases hc with ⟨e1, e2, e3, hr⟩ | ⟨e1, e2, a1, b1, a2, b2, P, e3, e4⟩
      · subst e1 e2 e3
        rcases hr with ⟨r1, no⟩ | ⟨k0, r1, r2, r3, r4, r5⟩
        · subst r1
          obtain ⟨r', pc', pA', pB', hR, hw2⟩ := ih q' (pops + 1) pA1 pB1 fa fb (by omega) (by omega) (by omega) (by omega) (fun i hi => hP i (by omega)) (fun k hk => by
            rw [D k hk]
            constructor
            · rintro ⟨i, hi, hd⟩
              refine ⟨i, ?_, hd⟩
              apply Classical.byContradiction
              intro y
              have : i = q' := by omega
              subst this
              exact hd (no k hk)
            · rintro ⟨i, hi, hd⟩
              exact ⟨i, by omega, hd⟩) (fun i j hij hj => O i j hij (by omega))
          refine ⟨r', pc', pA', pB', hR, fun post hpost n hn => ?_⟩
          obtain ⟨n, rfl⟩ : ∃ n', n = n' + 1 := ⟨n - 1, by omega⟩
          exact step post n (hw2 post hpost n (by omega))
        · refine ⟨r, nI q', pA1, pB1, Or.inr ⟨k0, r1, r2, r3, (D k0 r3).mpr ⟨q', by omega, r4⟩, fun k hk hlt => ?_⟩, fun post hpost n hn => ?_⟩
          · apply Classical.byContradiction
            intro y
            obtain ⟨i, hi, hd⟩ := (D k hk).mp y
            by_cases z : i = q'
            · subst z
              exact hd (r5 k hk hlt)
            · have h1 := O i q' (by omega) (by omega) k0 k (by unfold bn_b; omega) (by unfold bn_b; omega)
              omega
          · obtain ⟨n, rfl⟩ : ∃ n', n = n' + 1 + 1 := ⟨n - 2, by omega⟩
            exact step post (n + 1) (nd_f (by rw [r1]; exact xI_m1 (by omega)) hpost)
      · subst e1 e2 e3 e4
        obtain ⟨p1, p2, p3, p4, p5, p6, p7, s1, s2, s3, s4⟩ := P
        let fa2 := un_u (un_u fa t a2) (t + 1) a1
        let fb2 := un_u (un_u fb t b2) (t + 1) b1
        have A0 : ∀ i, i < t → fa2 i = fa i ∧ fb2 i = fb i := by
          intro i hi
          constructor
          · show un_u (un_u fa t a2) (t + 1) a1 i = _
            rw [un_n (by omega), un_n (by omega)]
          · show un_u (un_u fb t b2) (t + 1) b1 i = _
            rw [un_n (by omega), un_n (by omega)]
        have A1 : fa2 t = a2 ∧ fb2 t = b2 := by
          constructor
          · show un_u (un_u fa t a2) (t + 1) a1 t = _
            rw [un_n (by omega), un_s]
          · show un_u (un_u fb t b2) (t + 1) b1 t = _
            rw [un_n (by omega), un_s]
        have A2 : fa2 (t + 1) = a1 ∧ fb2 (t + 1) = b1 := ⟨un_s, un_s⟩
        have sW2 : sm_s (fun i => wt_w (H 3 (fa2 i) + H 3 (fb2 i))) (t + 1 + 1) = sm_s (fun i => wt_w (H 3 (fa i) + H 3 (fb i))) (t + 1) := by
          rw [sm_n, sm_n, sW, A1.1, A1.2, A2.1, A2.2, sm_congr (fun i hi => by rw [(A0 i hi).1, (A0 i hi).2])]
          unfold wt_w
          rw [if_neg p5, if_neg p6, if_neg (by omega)]
          omega
        obtain ⟨r', pc', pA', pB', hR, hw2⟩ := ih (t + 1 + 1) (pops + 1) (upd (upd pA t (nI a2)) (t + 1) (nI a1)) (upd (upd pB t (nI b2)) (t + 1) (nI b1)) fa2 fb2 (by rw [sW2]; omega) (by omega) (by rw [sW2]; have := sW; have := p5; have := p6; unfold wt_w at *; rw [if_neg (by omega)] at sW; omega) (by rw [sW2]; omega) (fun i hi => by
          by_cases z1 : i = t + 1
          · subst z1
            rw [A2.1, A2.2]
            exact ⟨pk_us, pk_us, s1, s2⟩
          · by_cases z2 : i = t
            · subst z2
              rw [A1.1, A1.2]
              refine ⟨?_, ?_, s3, s4⟩
              · rw [pk_un (by omega), pk_us]
              · rw [pk_un (by omega), pk_us]
            · rw [(A0 i (by omega)).1, (A0 i (by omega)).2]
              have := hP i (by omega)
              refine ⟨?_, ?_, this.2.2⟩
              · rw [pk_un (by omega), pk_un (by omega)]; exact this.1
              · rw [pk_un (by omega), pk_un (by omega)]; exact this.2.1) (fun k hk => by
          rw [D k hk]
          constructor
          · rintro ⟨i, hi, hd⟩
            by_cases z : i = t
            · subst z
              rcases (p1 k).mp hd with h | h
              · exact ⟨i + 1, by omega, by rw [A2.1, A2.2]; exact h⟩
              · exact ⟨i, by omega, by rw [A1.1, A1.2]; exact h⟩
            · exact ⟨i, by omega, by rw [(A0 i (by omega)).1, (A0 i (by omega)).2]; exact hd⟩
          · rintro ⟨i, hi, hd⟩
            by_cases z1 : i = t + 1
            · subst z1
              rw [A2.1, A2.2] at hd
              exact ⟨t, by omega, (p1 k).mpr (Or.inl hd)⟩
            · by_cases z2 : i = t
              · subst z2
                rw [A1.1, A1.2] at hd
                exact ⟨i, by omega, (p1 k).mpr (Or.inr hd)⟩
              · rw [(A0 i (by omega)).1, (A0 i (by omega)).2] at hd
                exact ⟨i, by omega, hd⟩) (fun i j hij hj k k' hb hb' => by
          by_cases z1 : j = t + 1
          · subst z1
            rw [A2.1, A2.2] at hb
            by_cases z2 : i = t
            · subst z2
              rw [A1.1, A1.2] at hb'
              exact p4 k k' hb hb'
            · rw [(A0 i (by omega)).1, (A0 i (by omega)).2] at hb'
              exact O i t (by omega) (by omega) k k' (p2 k hb) hb'
          · rw [(A0 i (by omega)).1, (A0 i (by omega)).2] at hb'
            by_cases z2 : j = t
            · subst z2
              rw [A1.1, A1.2] at hb
              exact O i j (by omega) (by omega) k k' (p3 k hb) hb'
            · rw [(A0 j (by omega)).1, (A0 j (by omega)).2] at hb
              exact O i j hij (by omega) k k' hb hb')
        refine ⟨r', pc', pA', pB', hR, fun post hpost n hn => ?_⟩
        obtain ⟨n, rfl⟩ : ∃ n', n = n' + 1 := ⟨n - 1, by omega⟩
        exact step post n (hw2 post hpost n (by omega))
theorem nq_wp (T : hp_T H S) (N : ∀ c, S c → c ≠ 0 → hp_N H c) {a b : Nat} (ha : S a) (hb : S b) (a24 : H 3 a ≤ 24) (b24 : H 3 b ≤ 24) :
    ∃ (r pc' : Int32) (pA' pB' : Nat → Int32), nd_R (mp_m H a) (mp_m H b) bd.toInt.toNat r ∧ ∀ post : Int32 → SX → Prop, post r (cp, sl, th, (nI fc), pc', (lN ep), (fun i => nI (hp_m (H 0 i))), (fun i => nI (H 1 i)), (fun i => nI (H 2 i)), (fun i => nI (H 3 i)), (fun i => nI (H 4 i)), (fun i => nI (H 5 i)), (fun i => nI (H 6 i)), (fun i => lN (H 7 i)), (fun i => nI (H 8 i)), pd, pA', pB', (fun i => nI (rt i)), ca, tk, so, ro, se, ki, ko, vo, ng, nc, st) →
      wpX_pushPair (fun u => match u with | (f0, f1, f2, f3, f4, f5, b0, b1, b2, b3, b4, b5, b6, b7, b8, b9, b10, b11, b12, b13, b14, b15, b16, b17, b18, b19, b20, b21, b22, b23) => ∃ n50 : Nat, wX_nextDiff_50 post bd n50 (-1) 0 f0 f1 f2 f3 f4 f5 b0 b1 b2 b3 b4 b5 b6 b7 b8 b9 b10 b11 b12 b13 b14 b15 b16 b17 b18 b19 b20 b21 b22 b23) (cp, sl, th, (nI fc), 0, (lN ep), (fun i => nI (hp_m (H 0 i))), (fun i => nI (H 1 i)), (fun i => nI (H 2 i)), (fun i => nI (H 3 i)), (fun i => nI (H 4 i)), (fun i => nI (H 5 i)), (fun i => nI (H 6 i)), (fun i => lN (H 7 i)), (fun i => nI (H 8 i)), pd, pA, pB, (fun i => nI (rt i)), ca, tk, so, ro, se, ki, ko, vo, ng, nc, st) (nI a) (nI b) := by
  have s1 : sm_s (fun i => wt_w (H 3 ((fun _ => a) i) + H 3 ((fun _ => b) i))) 1 = wt_w (H 3 a + H 3 b) := by rw [sm_n, sm_0]; exact Nat.zero_add _
  have w1 := wt_1 (H 3 a + H 3 b)
  have w48 : wt_w (H 3 a + H 3 b) ≤ 48 := by unfold wt_w; split <;> omega
  obtain ⟨r, pc', pA', pB', hR, hw⟩ := nd_l (cp := cp) (sl := sl) (th := th) (pd := pd) (ca := ca) (tk := tk) (so := so) (ro := ro) (se := se) (ki := ki) (ko := ko) (vo := vo) (ng := ng) (nc := nc) (st := st) (ep := ep) (rt := rt) (fc := fc) (bd := bd) (f := mp_m H a) (g := mp_m H b) T N 200 1 0 (upd pA 0 (nI a)) (upd pB 0 (nI b)) (fun _ => a) (fun _ => b) (by rw [s1]; omega) (by omega) (by rw [s1]; exact w1) (by rw [s1]; exact w48) (fun i hi => by
    have h0 : i = 0 := by omega
    subst h0
    exact ⟨pk_us, pk_us, ha, hb⟩) (fun k _ => ⟨fun h => ⟨0, by omega, h⟩, fun ⟨_, _, h⟩ => h⟩) (fun i j hij hj => by omega)
  exact ⟨r, pc', pA', pB', hR, fun post hp => pp_wp (q := 0) (by omega) ⟨201, hw post hp 201 (by omega)⟩⟩
end
end
section
/-! the reference: rows and queries -/
/-- the row at b with n places holds the map f -/
def ro_R (f : Nat → Nat) (yk yv : Nat → Nat) (b n : Nat) : Prop :=
  n ≤ 24 ∧ (∀ i, i < n → f (yk (b + i)) = yv (b + i) + 1 ∧ yk (b + i) < 65536 ∧ yv (b + i) < 2147483648) ∧ (∀ k, f k ≠ 0 → ∃ i, i < n ∧ yk (b + i) = k) ∧ (∀ i j, i < n → j < n → yk (b + i) = yk (b + j) → i = j)
theorem ro_N {f yk yv : Nat → Nat} {b n : Nat} (h : ro_R f yk yv b n) (N : Nat) : sm_s (fun i => if yk (b + i) < N then 1 else 0) n = cn_c f N := by
  induction N with
  | zero => rw [sm_z (fun i _ => if_neg (by omega))]; rfl
  | succ N ih =>
    rw [cn_n, ← ih]
    have s : sm_s (fun i => if yk (b + i) < N + 1 then 1 else 0) n = sm_s (fun i => if yk (b + i) < N then 1 else 0) n + sm_s (fun i => if yk (b + i) = N then 1 else 0) n := by
      rw [← sm_add]
      apply sm_congr
      intro i _
      by_cases a : yk (b + i) < N
      · rw [if_pos a, if_pos (by omega), if_neg (by omega)]
      · by_cases c : yk (b + i) = N
        · rw [if_neg a, if_pos c, if_pos (by omega)]
        · rw [if_neg a, if_neg c, if_neg (by omega)]
    rw [s]
    congr 1
    by_cases z : f N = 0
    · rw [if_pos z]
      apply sm_z
      intro i hi
      apply if_neg
      intro c
      have := (h.2.1 i hi).1
      rw [c, z] at this
      omega
    · rw [if_neg z]
      obtain ⟨i, hi, hk⟩ := h.2.2.1 N z
      have h1 := sm_one (f := fun i => if yk (b + i) = N then 1 else 0) (g := fun _ => 0) hi (fun j hj hn => if_neg (fun c => hn (h.2.2.2 j i hj hi (c.trans hk.symm))))
      rw [sm_z (f := fun _ => 0) (fun _ _ => rfl)] at h1
      rw [if_pos hk] at h1
      omega
theorem ro_n {f yk yv : Nat → Nat} {b n : Nat} (h : ro_R f yk yv b n) : n = cn_c f 65536 := by
  have h2 := sm_congr (f := fun i => if yk (b + i) < 65536 then 1 else 0) (g := fun _ => 1) (n := n) (fun i hi => if_pos (h.2.1 i hi).2.1)
  rw [ro_N h, sm_c1] at h2
  exact h2.symm
theorem bs_0 {f : Nat → Nat} {yk yv : Nat → Nat} {b n k : Nat} (h : ro_R f yk yv b n) (hk : f k ≠ 0) : k < 65536 := by
  obtain ⟨i, hi, e⟩ := h.2.2.1 k hk
  rw [← e]
  exact (h.2.1 i hi).2.1
/-- the least of a set of keys, or -1 -/
def bs_B (P : Nat → Prop) (r : Int32) : Prop := (r = -1 ∧ ∀ k, ¬ P k) ∨ (∃ k0, r = nI k0 ∧ k0 < 65536 ∧ P k0 ∧ ∀ k, P k → k0 ≤ k)
theorem bs_n {f g : Nat → Nat} {F : Nat} {r : Int32} {P : Nat → Prop} (h : bs_B P r) (e : ∀ k, P k ↔ (F ≤ k ∧ f k ≠ g k)) : nd_R f g F r := by
  rcases h with ⟨h1, h2⟩ | ⟨k0, h1, h2, h3, h4⟩
  · exact Or.inl ⟨h1, fun k hk => Classical.byContradiction (fun y => h2 k ((e k).mpr ⟨hk, y⟩))⟩
  · exact Or.inr ⟨k0, h1, h2, ((e k0).mp h3).1, ((e k0).mp h3).2, fun k hk hl => Classical.byContradiction (fun y => by have := h4 k ((e k).mpr ⟨hk, y⟩); omega)⟩
theorem bs_k {P P' : Nat → Prop} {r : Int32} (h : bs_B P r) (e : ∀ k, P' k ↔ P k) : bs_B P' r := by
  rcases h with ⟨h1, h2⟩ | ⟨k0, h1, h2, h3, h4⟩
  · exact Or.inl ⟨h1, fun k hk => h2 k ((e k).mp hk)⟩
  · exact Or.inr ⟨k0, h1, h2, (e k0).mpr h3, fun k hk => h4 k ((e k).mp hk)⟩
/-- one key more, as the loops of the reference take it -/
theorem bs_s {P P' : Nat → Prop} {r : Int32} {k1 : Nat} {A B C : Prop} (h : bs_B P r) (e : ∀ k, P' k ↔ (P k ∨ k = k1)) (hk : k1 < 65536) (a : bs_B P' (nI k1) → A) (b : bs_B P' r → B) :
    (r = -1 → A) ∧ (¬ r = -1 → ((r ≤ nI k1 → B) ∧ (¬ r ≤ nI k1 → A))) := by
  rcases h with ⟨h1, h2⟩ | ⟨k0, h1, h2, h3, h4⟩
  · refine br_t h1 (a (Or.inr ⟨k1, rfl, hk, (e k1).mpr (Or.inr rfl), fun k h => ?_⟩))
    rcases (e k).mp h with h | h
    · exact absurd h (h2 k)
    · omega
  · refine br_f (by rw [h1]; exact xI_m1 (by omega)) ?_
    rw [h1, nI_leI (by omega) (by omega)]
    refine br_c (fun l => b (Or.inr ⟨k0, h1, h2, (e k0).mpr (Or.inl h3), fun k h => ?_⟩)) (fun l => a (Or.inr ⟨k1, rfl, hk, (e k1).mpr (Or.inr rfl), fun k h => ?_⟩))
    · rcases (e k).mp h with h | h
      · exact h4 k h
      · omega
    · rcases (e k).mp h with h | h
      · have := h4 k h; omega
      · omega
section
variable {cp sl th : Int32} {tk ca so ro ki ko vo ng nd se su : Nat → Int32} {ys yk yv f g : Nat → Nat} {ep s : Nat}
theorem ix_a (s i : Nat) : (nI s * 24) + nI i = nI (s * 24 + i) := by
  have h : nI s * 24 = nI (s * 24) := pk_mul s 24
  rw [h, nI_add]
theorem fi_l (hs : s < 5) (h : ro_R f yk yv (s * 24) (ys s)) {k : Nat} (hk : k < 4294967296) : ∀ m i, m + i = ys s → (∀ j, j < i → yk (s * 24 + j) ≠ k) → ∃ r, ((r = -1 ∧ f k = 0) ∨ (∃ i, i < ys s ∧ r = nI (s * 24 + i) ∧ yk (s * 24 + i) = k)) ∧ ∀ post : Int32 → Prop, post r → ∀ n, m < n → wY_find_2 post (nI s) (nI k) cp sl th (nI ep) tk (fun i => nI (ys i)) ca (fun i => nI (yk i)) (fun i => nI (yv i)) so ro ki ko vo ng nd se su n (nI i) := by
  intro m
  induction m with
  | zero =>
    intro i hi hj
    have h24 := h.1
    refine ⟨-1, Or.inl ⟨rfl, ?_⟩, fun post hp n hn => ?_⟩
    · apply Classical.byContradiction
      intro y
      obtain ⟨j, h1, h2⟩ := h.2.2.1 k y
      exact hj j (by omega) h2
    · obtain ⟨n, rfl⟩ : ∃ n', n = n' + 1 := ⟨n - 1, by omega⟩
      refine ⟨vp_in_nI hs (by decide), br_t ?_ hp⟩
      show nI (ys (nI s).toNatClampNeg) ≤ nI i
      rw [nI_clamp (by omega)]
      exact nI_le (by omega) (by omega)
  | succ m ih =>
    intro i hi hj
    have h24 := h.1
    have cs : (nI s).toNatClampNeg = s := nI_clamp (by omega)
    have ci : (nI (s * 24 + i)).toNatClampNeg = s * 24 + i := nI_clamp (by omega)
    have ii : vp_in (nI (s * 24 + i)) 120 := vp_in_nI (by omega) (by decide)
    have hb := h.2.1 i (by omega)
    by_cases e : yk (s * 24 + i) = k
    · refine ⟨nI (s * 24 + i), Or.inr ⟨i, by omega, rfl, e⟩, fun post hp n hn => ?_⟩
      obtain ⟨n, rfl⟩ : ∃ n', n = n' + 1 := ⟨n - 1, by omega⟩
      refine ⟨vp_in_nI hs (by decide), br_f ?_ ?_⟩
      · show ¬ nI (ys (nI s).toNatClampNeg) ≤ nI i
        rw [cs]
        exact nI_ge (by omega) (by omega)
      · rw [ix_a]
        refine ⟨ii, br_t ?_ hp⟩
        show nI (yk (nI (s * 24 + i)).toNatClampNeg) = nI k
        rw [ci, e]
    · obtain ⟨r, hr, hw⟩ := ih (i + 1) (by omega) (fun j hj2 => by
        by_cases z : j = i
        · rw [z]; exact e
        · exact hj j (by omega))
      refine ⟨r, hr, fun post hp n hn => ?_⟩
      obtain ⟨n, rfl⟩ : ∃ n', n = n' + 1 := ⟨n - 1, by omega⟩
      refine ⟨vp_in_nI hs (by decide), br_f ?_ ?_⟩
      · show ¬ nI (ys (nI s).toNatClampNeg) ≤ nI i
        rw [cs]
        exact nI_ge (by omega) (by omega)
      · rw [ix_a]
        refine ⟨ii, br_f ?_ (nm_r (nI_1 i) (hw post hp n (by omega)))⟩
        show ¬ nI (yk (nI (s * 24 + i)).toNatClampNeg) = nI k
        rw [ci]
        exact fun z => e ((xI_eq32 (by omega) hk).mp z)
theorem fi_wp (hs : s < 5) (h : ro_R f yk yv (s * 24) (ys s)) {k : Nat} (hk : k < 4294967296) : ∃ r, ((r = -1 ∧ f k = 0) ∨ (∃ i, i < ys s ∧ r = nI (s * 24 + i) ∧ yk (s * 24 + i) = k)) ∧ ∀ post : Int32 → Prop, post r → wpY_find post (cp, sl, th, (nI ep), tk, (fun i => nI (ys i)), ca, (fun i => nI (yk i)), (fun i => nI (yv i)), so, ro, ki, ko, vo, ng, nd, se, su) (nI s) (nI k) := by
  obtain ⟨r, hr, hw⟩ := fi_l (cp := cp) (sl := sl) (th := th) (tk := tk) (ca := ca) (so := so) (ro := ro) (ki := ki) (ko := ko) (vo := vo) (ng := ng) (nd := nd) (se := se) (su := su) (ep := ep) hs h hk (ys s) 0 (by omega) (fun j hj => by omega)
  refine ⟨r, hr, fun post hp => ?_⟩
  unfold wpY_find
  exact ⟨ys s + 1, hw post hp _ (by omega)⟩
theorem yl_wp (hs : s < 5) (h : ro_R f yk yv (s * 24) (ys s)) {k : Nat} (hk : k < 4294967296) {post : Int32 → Prop} (hp : post (lk_v (f k))) : wpY_lookup post (cp, sl, th, (nI ep), tk, (fun i => nI (ys i)), ca, (fun i => nI (yk i)), (fun i => nI (yv i)), so, ro, ki, ko, vo, ng, nd, se, su) (nI s) (nI k) := by
  obtain ⟨r, hr, hw⟩ := fi_wp (cp := cp) (sl := sl) (th := th) (tk := tk) (ca := ca) (so := so) (ro := ro) (ki := ki) (ko := ko) (vo := vo) (ng := ng) (nd := nd) (se := se) (su := su) (ep := ep) hs h hk
  unfold wpY_lookup
  apply hw
  have h24 := h.1
  rcases hr with ⟨r1, r2⟩ | ⟨i, r1, r2, r3⟩
  · rw [r2] at hp
    rw [r1]
    exact br_f (by decide) hp
  · have hb := h.2.1 i r1
    rw [r3] at hb
    rw [hb.1, lk_s] at hp
    rw [r2]
    refine br_t (nI_pos' (by omega)) ⟨vp_in_nI (by omega) (by decide), ?_⟩
    dsimp only
    rw [nI_clamp (by omega)]
    exact hp
theorem co_l (hs : s < 5) (h : ro_R f yk yv (s * 24) (ys s)) (lo hi : Int32) : ∀ m i z, m + i = ys s → z ≤ i → ∀ post : Int32 → Prop, post (nI (z + sm_s (fun j => if lo.toInt.toNat ≤ yk (s * 24 + (i + j)) ∧ yk (s * 24 + (i + j)) < (hi.toInt + 1).toNat then 1 else 0) m)) → ∀ n, m < n → wY_count_22 post lo hi (nI s) cp sl th (nI ep) tk (fun i => nI (ys i)) ca (fun i => nI (yk i)) (fun i => nI (yv i)) so ro ki ko vo ng nd se su n (nI z) (nI i) := by
  have h24 := h.1
  have cs : (nI s).toNatClampNeg = s := nI_clamp (by omega)
  have sh : ∀ (F : Nat → Nat) (m : Nat), sm_s F (m + 1) = F 0 + sm_s (fun j => F (1 + j)) m := by
    intro F m
    induction m with
    | zero => rw [sm_n, sm_0, sm_0]; omega
    | succ m ih => rw [sm_n, ih, sm_n, Nat.add_comm 1 m]; omega
  intro m
  induction m with
  | zero =>
    intro i z hi hz post hp n hn
    obtain ⟨n, rfl⟩ : ∃ n', n = n' + 1 := ⟨n - 1, by omega⟩
    refine ⟨vp_in_nI hs (by decide), br_t ?_ hp⟩
    show nI (ys (nI s).toNatClampNeg) ≤ nI i
    rw [cs]
    exact nI_le (by omega) (by omega)
  | succ m ih =>
    intro i z hi' hz post hp n hn
    obtain ⟨n, rfl⟩ : ∃ n', n = n' + 1 := ⟨n - 1, by omega⟩
    have ci : (nI (s * 24 + i)).toNatClampNeg = s * 24 + i := nI_clamp (by omega)
    have ii : vp_in (nI (s * 24 + i)) 120 := vp_in_nI (by omega) (by decide)
    have hb := h.2.1 i (by omega)
    rw [sh, Nat.add_zero] at hp
    have e : (fun j => if lo.toInt.toNat ≤ yk (s * 24 + (i + (1 + j))) ∧ yk (s * 24 + (i + (1 + j))) < (hi.toInt + 1).toNat then 1 else 0) = (fun j => if lo.toInt.toNat ≤ yk (s * 24 + (i + 1 + j)) ∧ yk (s * 24 + (i + 1 + j)) < (hi.toInt + 1).toNat then 1 else 0) := by
      funext j
      rw [Nat.add_assoc i 1 j]
    rw [e] at hp
    refine ⟨vp_in_nI hs (by decide), br_f ?_ ?_⟩
    · show ¬ nI (ys (nI s).toNatClampNeg) ≤ nI i
      rw [cs]
      exact nI_ge (by omega) (by omega)
    · rw [ix_a]
      dsimp only
      rw [ci]
      have c1 := lt_b lo (a := yk (s * 24 + i)) (by omega)
      have c2 : hi < nI (yk (s * 24 + i)) ↔ (hi.toInt + 1).toNat ≤ yk (s * 24 + i) := by
        rw [Int32.lt_iff_toInt_lt, nI_toInt (by omega)]
        omega
      refine ⟨ii, br_c (fun a => nm_r (nI_1 i) ?_) (fun a => ⟨ii, br_c (fun b => nm_r (nI_1 i) ?_) (fun b => nm_r (nI_1 z) (nm_r (nI_1 i) ?_))⟩)⟩
      · rw [c1] at a
        rw [if_neg (by omega), Nat.zero_add] at hp
        exact ih (i + 1) z (by omega) (by omega) post hp n (by omega)
      · rw [c2] at b
        rw [if_neg (by omega), Nat.zero_add] at hp
        exact ih (i + 1) z (by omega) (by omega) post hp n (by omega)
      · rw [c1] at a
        rw [c2] at b
        rw [if_pos (by omega), ← Nat.add_assoc] at hp
        exact ih (i + 1) (z + 1) (by omega) (by omega) post hp n (by omega)
/-- the number of places in a range -/
theorem co_n {b n LO HI : Nat} (h : ro_R f yk yv b n) : sm_s (fun j => if LO ≤ yk (b + (0 + j)) ∧ yk (b + (0 + j)) < HI then 1 else 0) n = cn_c f HI - cn_c f LO := by
  by_cases l : LO ≤ HI
  · have s : sm_s (fun i => if yk (b + i) < HI then 1 else 0) n = sm_s (fun i => if yk (b + i) < LO then 1 else 0) n + sm_s (fun j => if LO ≤ yk (b + (0 + j)) ∧ yk (b + (0 + j)) < HI then 1 else 0) n := by
      rw [← sm_add]
      apply sm_congr
      intro i _
      rw [Nat.zero_add]
      by_cases a : yk (b + i) < LO
      · rw [if_pos a, if_pos (by omega), if_neg (by omega)]
      · by_cases c : yk (b + i) < HI
        · rw [if_neg a, if_pos c, if_pos (by omega)]
        · rw [if_neg a, if_neg c, if_neg (by omega)]
    rw [ro_N h, ro_N h] at s
    omega
  · have := cn_le (f := f) (a := HI) (b := LO) (by omega)
    rw [sm_z (fun i _ => if_neg (by omega))]
    omega
theorem nk_l (hs : s < 5) (h : ro_R f yk yv (s * 24) (ys s)) (fr : Int32) : ∀ m i best, m + i = ys s → bs_B (fun k => fr.toInt.toNat ≤ k ∧ ∃ j, j < i ∧ yk (s * 24 + j) = k) best → ∃ r, nd_R f (fun _ => 0) fr.toInt.toNat r ∧ ∀ post : Int32 → Prop, post r → ∀ n, m < n → wY_nextKey_21 post fr (nI s) cp sl th (nI ep) tk (fun i => nI (ys i)) ca (fun i => nI (yk i)) (fun i => nI (yv i)) so ro ki ko vo ng nd se su n best (nI i) := by
  have h24 := h.1
  have cs : (nI s).toNatClampNeg = s := nI_clamp (by omega)
  intro m
  induction m with
  | zero =>
    intro i best hi hb
    refine ⟨best, bs_n hb (fun k => ⟨fun a => ⟨a.1, ?_⟩, fun a => ⟨a.1, ?_⟩⟩), fun post hp n hn => ?_⟩
    · obtain ⟨_, j, hj, e⟩ := a
      have := (h.2.1 j (by omega)).1
      rw [e] at this
      omega
    · obtain ⟨j, hj, e⟩ := h.2.2.1 k a.2
      exact ⟨j, by omega, e⟩
    · obtain ⟨n, rfl⟩ : ∃ n', n = n' + 1 := ⟨n - 1, by omega⟩
      refine ⟨vp_in_nI hs (by decide), br_t ?_ hp⟩
      show nI (ys (nI s).toNatClampNeg) ≤ nI i
      rw [cs]
      exact nI_le (by omega) (by omega)
  | succ m ih =>
    intro i best hi hb
    have ci : (nI (s * 24 + i)).toNatClampNeg = s * 24 + i := nI_clamp (by omega)
    have ii : vp_in (nI (s * 24 + i)) 120 := vp_in_nI (by omega) (by decide)
    have hk := h.2.1 i (by omega)
    have c1 := lt_b fr (a := yk (s * 24 + i)) (by omega)
    have pre : ∀ (post : Int32 → Prop) (n : Nat), ((nI (yk (s * 24 + i)) < fr → wY_nextKey_21 post fr (nI s) cp sl th (nI ep) tk (fun i => nI (ys i)) ca (fun i => nI (yk i)) (fun i => nI (yv i)) so ro ki ko vo ng nd se su n best (nI (i + 1))) ∧ (¬ nI (yk (s * 24 + i)) < fr → ((best = -1 → wY_nextKey_21 post fr (nI s) cp sl th (nI ep) tk (fun i => nI (ys i)) ca (fun i => nI (yk i)) (fun i => nI (yv i)) so ro ki ko vo ng nd se su n (nI (yk (s * 24 + i))) (nI (i + 1))) ∧ (¬ best = -1 → ((best ≤ nI (yk (s * 24 + i)) → wY_nextKey_21 post fr (nI s) cp sl th (nI ep) tk (fun i => nI (ys i)) ca (fun i => nI (yk i)) (fun i => nI (yv i)) so ro ki ko vo ng nd se su n best (nI (i + 1))) ∧ (¬ best ≤ nI (yk (s * 24 + i)) → wY_nextKey_21 post fr (nI s) cp sl th (nI ep) tk (fun i => nI (ys i)) ca (fun i => nI (yk i)) (fun i => nI (yv i)) so ro ki ko vo ng nd se su n (nI (yk (s * 24 + i))) (nI (i + 1)))))))) → wY_nextKey_21 post fr (nI s) cp sl th (nI ep) tk (fun i => nI (ys i)) ca (fun i => nI (yk i)) (fun i => nI (yv i)) so ro ki ko vo ng nd se su (n + 1) best (nI i) := by
      intro post n w
      refine ⟨vp_in_nI hs (by decide), br_f ?_ ?_⟩
      · show ¬ nI (ys (nI s).toNatClampNeg) ≤ nI i
        rw [cs]
        exact nI_ge (by omega) (by omega)
      · rw [ix_a]
        dsimp only
        rw [ci]
        refine ⟨ii, nm_e (br_c (fun a => nm_r (nI_1 i) (w.1 a)) (fun a => br_c (fun b => nm_r (nI_1 i) ((w.2 a).1 b)) (fun b => br_c (fun c => nm_r (nI_1 i) (((w.2 a).2 b).1 c)) (fun c => nm_r (nI_1 i) (((w.2 a).2 b).2 c)))))⟩
    by_cases a : nI (yk (s * 24 + i)) < fr
    · have a' := c1.mp a
      obtain ⟨r, hr, hw⟩ := ih (i + 1) best (by omega) (bs_k hb (fun k => by
        constructor
        · rintro ⟨x1, j, x2, x3⟩
          refine ⟨x1, j, ?_, x3⟩
          apply Classical.byContradiction
          intro y
          have : j = i := by omega
          subst this
          omega
        · rintro ⟨x1, j, x2, x3⟩
          exact ⟨x1, j, by omega, x3⟩))
      refine ⟨r, hr, fun post hp n hn => ?_⟩
      obtain ⟨n, rfl⟩ : ∃ n', n = n' + 1 := ⟨n - 1, by omega⟩
      exact pre post n (br_t a (hw post hp n (by omega)))
    · have a' : fr.toInt.toNat ≤ yk (s * 24 + i) := by
        have a2 : ¬ yk (s * 24 + i) < fr.toInt.toNat := fun z => a (c1.mpr z)
        omega
      have ee : ∀ k, (fr.toInt.toNat ≤ k ∧ ∃ j, j < i + 1 ∧ yk (s * 24 + j) = k) ↔ ((fr.toInt.toNat ≤ k ∧ ∃ j, j < i ∧ yk (s * 24 + j) = k) ∨ k = yk (s * 24 + i)) := by
        intro k
        constructor
        · rintro ⟨x1, j, x2, x3⟩
          by_cases y : j = i
          · subst y
            exact Or.inr x3.symm
          · exact Or.inl ⟨x1, j, by omega, x3⟩
        · rintro (⟨x1, j, x2, x3⟩ | x)
          · exact ⟨x1, j, by omega, x3⟩
          · exact ⟨by omega, i, by omega, x.symm⟩
      have two : (best = -1 ∧ bs_B (fun k => fr.toInt.toNat ≤ k ∧ ∃ j, j < i + 1 ∧ yk (s * 24 + j) = k) (nI (yk (s * 24 + i)))) ∨ (¬ best = -1 ∧ ((best ≤ nI (yk (s * 24 + i)) ∧ bs_B (fun k => fr.toInt.toNat ≤ k ∧ ∃ j, j < i + 1 ∧ yk (s * 24 + j) = k) best) ∨ (¬ best ≤ nI (yk (s * 24 + i)) ∧ bs_B (fun k => fr.toInt.toNat ≤ k ∧ ∃ j, j < i + 1 ∧ yk (s * 24 + j) = k) (nI (yk (s * 24 + i)))))) := by
        have w := bs_s (C := True) hb ee hk.2.1 (fun x => x) (fun x => x)
        by_cases y : best = -1
        · exact Or.inl ⟨y, w.1 y⟩
        · right
          refine ⟨y, ?_⟩
          by_cases z : best ≤ nI (yk (s * 24 + i))
          · exact Or.inl ⟨z, (w.2 y).1 z⟩
          · exact Or.inr ⟨z, (w.2 y).2 z⟩
      rcases two with ⟨y, B⟩ | ⟨y, ⟨z, B⟩ | ⟨z, B⟩⟩
      · obtain ⟨r, hr, hw⟩ := ih (i + 1) _ (by omega) B
        refine ⟨r, hr, fun post hp n hn => ?_⟩
        obtain ⟨n, rfl⟩ : ∃ n', n = n' + 1 := ⟨n - 1, by omega⟩
        exact pre post n (br_f a (br_t y (hw post hp n (by omega))))
      · obtain ⟨r, hr, hw⟩ := ih (i + 1) _ (by omega) B
        refine ⟨r, hr, fun post hp n hn => ?_⟩
        obtain ⟨n, rfl⟩ : ∃ n', n = n' + 1 := ⟨n - 1, by omega⟩
        exact pre post n (br_f a (br_f y (br_t z (hw post hp n (by omega)))))
      · obtain ⟨r, hr, hw⟩ := ih (i + 1) _ (by omega) B
        refine ⟨r, hr, fun post hp n hn => ?_⟩
        obtain ⟨n, rfl⟩ : ∃ n', n = n' + 1 := ⟨n - 1, by omega⟩
        exact pre post n (br_f a (br_f y (br_f z (hw post hp n (by omega)))))
end
end
section
/-! the reference: nextDiff -/
section
variable {cp sl th : Int32} {tk ca so ro ki ko vo ng nd se su : Nat → Int32} {ys yk yv f g h : Nat → Nat} {ep sa sb sx : Nat} {x1 x2 : Int32}
theorem yd_l (ha : sa < 5) (hb : sb < 5) (hx : sx < 5) (Ra : ro_R f yk yv (sa * 24) (ys sa)) (Rb : ro_R g yk yv (sb * 24) (ys sb)) (Rx : ro_R h yk yv (sx * 24) (ys sx)) (e1 : x1 + 1 = nI sa) (e2 : x2 + 1 = nI sb) (fb : ∀ k, f k ≤ 2147483648) (gb : ∀ k, g k ≤ 2147483648) (fr x5 : Int32) (P0 : Nat → Prop) :
    ∀ m i best, m + i = ys sx → bs_B (fun k => P0 k ∨ ((fr.toInt.toNat ≤ k ∧ f k ≠ g k) ∧ ∃ j, j < i ∧ yk (sx * 24 + j) = k)) best →
    ∃ best', bs_B (fun k => P0 k ∨ ((fr.toInt.toNat ≤ k ∧ f k ≠ g k) ∧ ∃ j, j < ys sx ∧ yk (sx * 24 + j) = k)) best' ∧ ∀ (post : Int32 → Prop) (J : Int32 → Int32 → Prop), J best' (x5 + 1) → ∀ n, m < n → wY_nextDiff_50 post J x1 x2 fr x5 (nI sx) cp sl th (nI ep) tk (fun i => nI (ys i)) ca (fun i => nI (yk i)) (fun i => nI (yv i)) so ro ki ko vo ng nd se su n best (nI i) := by
  have h24 := Rx.1
  have cs : (nI sx).toNatClampNeg = sx := nI_clamp (by omega)
  intro m
  induction m with
  | zero =>
    intro i best hi hB
    have e : i = ys sx := by omega
    subst e
    refine ⟨best, hB, fun post J hJ n hn => ?_⟩
    obtain ⟨n, rfl⟩ : ∃ n', n = n' + 1 := ⟨n - 1, by omega⟩
    refine ⟨vp_in_nI hx (by decide), br_t ?_ (nm_e hJ)⟩
    show nI (ys (nI sx).toNatClampNeg) ≤ nI (ys sx)
    rw [cs]
    exact nI_le (by omega) (by omega)
  | succ m ih =>
    intro i best hi hB
    have ci : (nI (sx * 24 + i)).toNatClampNeg = sx * 24 + i := nI_clamp (by omega)
    have ii : vp_in (nI (sx * 24 + i)) 120 := vp_in_nI (by omega) (by decide)
    have hk := Rx.2.1 i (by omega)
    generalize hkey : yk (sx * 24 + i) = key at hk
    have c1 := lt_b fr (a := key) (by omega)
    have pre : ∀ (post : Int32 → Prop) (J : Int32 → Int32 → Prop) (n : Nat), ((nI key < fr → wY_nextDiff_50 post J x1 x2 fr x5 (nI sx) cp sl th (nI ep) tk (fun i => nI (ys i)) ca (fun i => nI (yk i)) (fun i => nI (yv i)) so ro ki ko vo ng nd se su n best (nI (i + 1))) ∧ (¬ nI key < fr → ((lk_v (f key) = lk_v (g key) → wY_nextDiff_50 post J x1 x2 fr x5 (nI sx) cp sl th (nI ep) tk (fun i => nI (ys i)) ca (fun i => nI (yk i)) (fun i => nI (yv i)) so ro ki ko vo ng nd se su n best (nI (i + 1))) ∧ (¬ lk_v (f key) = lk_v (g key) → ((best = -1 → wY_nextDiff_50 post J x1 x2 fr x5 (nI sx) cp sl th (nI ep) tk (fun i => nI (ys i)) ca (fun i => nI (yk i)) (fun i => nI (yv i)) so ro ki ko vo ng nd se su n (nI key) (nI (i + 1))) ∧ (¬ best = -1 → ((best ≤ nI key → wY_nextDiff_50 post J x1 x2 fr x5 (nI sx) cp sl th (nI ep) tk (fun i => nI (ys i)) ca (fun i => nI (yk i)) (fun i => nI (yv i)) so ro ki ko vo ng nd se su n best (nI (i + 1))) ∧ (¬ best ≤ nI key → wY_nextDiff_50 post J x1 x2 fr x5 (nI sx) cp sl th (nI ep) tk (fun i => nI (ys i)) ca (fun i => nI (yk i)) (fun i => nI (yv i)) so ro ki ko vo ng nd se su n (nI key) (nI (i + 1)))))))))) → wY_nextDiff_50 post J x1 x2 fr x5 (nI sx) cp sl th (nI ep) tk (fun i => nI (ys i)) ca (fun i => nI (yk i)) (fun i => nI (yv i)) so ro ki ko vo ng nd se su (n + 1) best (nI i) := by
      intro post J n w
      refine ⟨vp_in_nI hx (by decide), br_f ?_ ?_⟩
      · show ¬ nI (ys (nI sx).toNatClampNeg) ≤ nI i
        rw [cs]
        exact nI_ge (by omega) (by omega)
      · rw [ix_a]
        dsimp only
        rw [ci, hkey, e1, e2]
        refine ⟨ii, nm_e (yl_wp ha Ra (by omega) (yl_wp hb Rb (by omega) ?_))⟩
        exact br_c (fun a => nm_r (nI_1 i) (w.1 a)) (fun a => br_c (fun q => nm_r (nI_1 i) ((w.2 a).1 q)) (fun q => br_c (fun b => nm_r (nI_1 i) (((w.2 a).2 q).1 b)) (fun b => br_c (fun c => nm_r (nI_1 i) ((((w.2 a).2 q).2 b).1 c)) (fun c => nm_r (nI_1 i) ((((w.2 a).2 q).2 b).2 c)))))
    by_cases sk : nI key < fr ∨ f key = g key
    · obtain ⟨r, hr, hw⟩ := ih (i + 1) best (by omega) (bs_k hB (fun k => by
        constructor
        · rintro (y | ⟨y1, j, y2, y3⟩)
          · exact Or.inl y
          · refine Or.inr ⟨y1, j, ?_, y3⟩
            apply Classical.byContradiction
            intro z
            have : j = i := by omega
            subst this
            rw [hkey] at y3
            subst y3
            rcases sk with sk | sk
            · have := c1.mp sk
              omega
            · exact y1.2 sk
        · rintro (y | ⟨y1, j, y2, y3⟩)
          · exact Or.inl y
          · exact Or.inr ⟨y1, j, by omega, y3⟩))
      refine ⟨r, hr, fun post J hJ n hn => ?_⟩
      obtain ⟨n, rfl⟩ : ∃ n', n = n' + 1 := ⟨n - 1, by omega⟩
      refine pre post J n ?_
      by_cases a : nI key < fr
      · exact br_t a (hw post J hJ n (by omega))
      · refine br_f a (br_t ?_ (hw post J hJ n (by omega)))
        rcases sk with sk | sk
        · exact absurd sk a
        · rw [sk]
    · have a : ¬ nI key < fr := fun z => sk (Or.inl z)
      have d : ¬ f key = g key := fun z => sk (Or.inr z)
      have d' : ¬ lk_v (f key) = lk_v (g key) := fun z => d ((lk_i (fb key) (gb key)).mp z)
      have a' : ¬ key < fr.toInt.toNat := fun z => a (c1.mpr z)
      have ee : ∀ k, (P0 k ∨ ((fr.toInt.toNat ≤ k ∧ f k ≠ g k) ∧ ∃ j, j < i + 1 ∧ yk (sx * 24 + j) = k)) ↔ ((P0 k ∨ ((fr.toInt.toNat ≤ k ∧ f k ≠ g k) ∧ ∃ j, j < i ∧ yk (sx * 24 + j) = k)) ∨ k = key) := by
        intro k
        constructor
        · rintro (y | ⟨y1, j, y2, y3⟩)
          · exact Or.inl (Or.inl y)
          · by_cases z : j = i
            · subst z
              rw [hkey] at y3
              exact Or.inr y3.symm
            · exact Or.inl (Or.inr ⟨y1, j, by omega, y3⟩)
        · rintro ((y | ⟨y1, j, y2, y3⟩) | y)
          · exact Or.inl y
          · exact Or.inr ⟨y1, j, by omega, y3⟩
          · subst y
            exact Or.inr ⟨⟨by omega, d⟩, i, by omega, hkey⟩
      have w := bs_s (C := True) hB ee hk.2.1 (fun x => x) (fun x => x)
      by_cases y : best = -1
      · obtain ⟨r, hr, hw⟩ := ih (i + 1) _ (by omega) (w.1 y)
        refine ⟨r, hr, fun post J hJ n hn => ?_⟩
        obtain ⟨n, rfl⟩ : ∃ n', n = n' + 1 := ⟨n - 1, by omega⟩
        exact pre post J n (br_f a (br_f d' (br_t y (hw post J hJ n (by omega)))))
      · by_cases z : best ≤ nI key
        · obtain ⟨r, hr, hw⟩ := ih (i + 1) _ (by omega) ((w.2 y).1 z)
          refine ⟨r, hr, fun post J hJ n hn => ?_⟩
          obtain ⟨n, rfl⟩ : ∃ n', n = n' + 1 := ⟨n - 1, by omega⟩
          exact pre post J n (br_f a (br_f d' (br_f y (br_t z (hw post J hJ n (by omega))))))
        · obtain ⟨r, hr, hw⟩ := ih (i + 1) _ (by omega) ((w.2 y).2 z)
          refine ⟨r, hr, fun post J hJ n hn => ?_⟩
          obtain ⟨n, rfl⟩ : ∃ n', n = n' + 1 := ⟨n - 1, by omega⟩
          exact pre post J n (br_f a (br_f d' (br_f y (br_f z (hw post J hJ n (by omega))))))
theorem yd_wp (ha : sa < 5) (hb : sb < 5) (Ra : ro_R f yk yv (sa * 24) (ys sa)) (Rb : ro_R g yk yv (sb * 24) (ys sb)) (e1 : x1 + 1 = nI sa) (e2 : x2 + 1 = nI sb) (fb : ∀ k, f k ≤ 2147483648) (gb : ∀ k, g k ≤ 2147483648) (fr : Int32) :
    ∃ r, nd_R f g fr.toInt.toNat r ∧ ∀ post : Int32 → Prop, post r → ∃ n25 : Nat, wY_nextDiff_25 post x1 x2 fr cp sl th (nI ep) tk (fun i => nI (ys i)) ca (fun i => nI (yk i)) (fun i => nI (yv i)) so ro ki ko vo ng nd se su n25 (-1) 0 := by
  obtain ⟨r1, B1, w1⟩ := yd_l (cp := cp) (sl := sl) (th := th) (tk := tk) (ca := ca) (so := so) (ro := ro) (ki := ki) (ko := ko) (vo := vo) (ng := ng) (nd := nd) (se := se) (su := su) (ep := ep) ha hb ha Ra Rb Ra e1 e2 fb gb fr 0 (fun _ => False) (ys sa) 0 (-1) (by omega) (Or.inl ⟨rfl, fun k hk => by
    rcases hk with hk | ⟨_, j, hj, _⟩
    · exact hk
    · omega⟩)
  obtain ⟨r2, B2, w2⟩ := yd_l (cp := cp) (sl := sl) (th := th) (tk := tk) (ca := ca) (so := so) (ro := ro) (ki := ki) (ko := ko) (vo := vo) (ng := ng) (nd := nd) (se := se) (su := su) (ep := ep) ha hb hb Ra Rb Rb e1 e2 fb gb fr 1 (fun k => False ∨ ((fr.toInt.toNat ≤ k ∧ f k ≠ g k) ∧ ∃ j, j < ys sa ∧ yk (sa * 24 + j) = k)) (ys sb) 0 r1 (by omega) (bs_k B1 (fun k => by
    constructor
    · rintro (y | ⟨_, j, hj, _⟩)
      · exact y
      · omega
    · exact Or.inl))
  refine ⟨r2, bs_n B2 (fun k => ?_), fun post hp => ⟨3, ?_⟩⟩
  · constructor
    · rintro ((y | y) | y)
      · exact absurd y id
      · exact y.1
      · exact y.1
    · intro y
      by_cases z : f k = 0
      · have gz : g k ≠ 0 := fun w => y.2 (by rw [z, w])
        obtain ⟨j, hj, e⟩ := Rb.2.2.1 k gz
        exact Or.inr ⟨y, j, hj, e⟩
      · obtain ⟨j, hj, e⟩ := Ra.2.2.1 k z
        exact Or.inl (Or.inr ⟨y, j, hj, e⟩)
  · refine br_f (by decide) (br_t rfl (nm_r e1 ⟨ys sa + 1, w1 _ _ ?_ _ (by omega)⟩))
    refine br_f (by decide) (br_f (by decide) (nm_r e2 ⟨ys sb + 1, w2 _ _ ?_ _ (by omega)⟩))
    exact br_t (by decide) hp
end
end
section
/-! rows that change; the relation -/
theorem ro_c {f yk yv yk' yv' : Nat → Nat} {b n : Nat} (h : ro_R f yk yv b n) (e : ∀ i, i < n → yk' (b + i) = yk (b + i) ∧ yv' (b + i) = yv (b + i)) : ro_R f yk' yv' b n := by
  obtain ⟨h1, h2, h3, h4⟩ := h
  refine ⟨h1, fun i hi => by rw [(e i hi).1, (e i hi).2]; exact h2 i hi, fun k hk => ?_, fun i j hi hj => by rw [(e i hi).1, (e j hj).1]; exact h4 i j hi hj⟩
  obtain ⟨i, hi, hk⟩ := h3 k hk
  exact ⟨i, hi, by rw [(e i hi).1]; exact hk⟩
theorem ro_a {f yk yv : Nat → Nat} {b n k v : Nat} (h : ro_R f yk yv b n) (fk : f k = 0) (hn : n < 24) (hk : k < 65536) (hv : v < 2147483648) : ro_R (un_u f k (v + 1)) (un_u yk (b + n) k) (un_u yv (b + n) v) b (n + 1) := by
  obtain ⟨h1, h2, h3, h4⟩ := h
  have ne : ∀ i, i < n → yk (b + i) ≠ k := by
    intro i hi z
    have := (h2 i hi).1
    rw [z, fk] at this
    omega
  refine ⟨by omega, fun i hi => ?_, fun k' hk' => ?_, fun i j hi hj e => ?_⟩
  · by_cases z : i = n
    · rw [z, un_s, un_s, un_s]; exact ⟨rfl, hk, hv⟩
    · have e1 : un_u yk (b + n) k (b + i) = yk (b + i) := un_n (by omega)
      have e2 : un_u yv (b + n) v (b + i) = yv (b + i) := un_n (by omega)
      rw [e1, e2, un_n (ne i (by omega))]
      exact h2 i (by omega)
  · by_cases z : k' = k
    · exact ⟨n, by omega, by rw [un_s, z]⟩
    · rw [un_n z] at hk'
      obtain ⟨i, hi, e⟩ := h3 k' hk'
      exact ⟨i, by omega, by rw [un_n (by omega)]; exact e⟩
  · by_cases z : i = n
    · by_cases y : j = n
      · omega
      · rw [z, un_s, un_n (by omega)] at e
        exact absurd e.symm (ne j (by omega))
    · by_cases y : j = n
      · rw [y, un_s, un_n (by omega)] at e
        exact absurd e (ne i (by omega))
      · rw [un_n (by omega), un_n (by omega)] at e
        exact h4 i j (by omega) (by omega) e
theorem ro_o {f yk yv : Nat → Nat} {b n k v i : Nat} (h : ro_R f yk yv b n) (hi : i < n) (e : yk (b + i) = k) (hv : v < 2147483648) : ro_R (un_u f k (v + 1)) (un_u yk (b + i) k) (un_u yv (b + i) v) b n := by
  obtain ⟨h1, h2, h3, h4⟩ := h
  have ek : ∀ j, un_u yk (b + i) k (b + j) = yk (b + j) := by
    intro j
    by_cases z : j = i
    · rw [z, un_s, e]
    · rw [un_n (by omega)]
  refine ⟨h1, fun j hj => ?_, fun k' hk' => ?_, fun a c ha hc => by rw [ek, ek]; exact h4 a c ha hc⟩
  · rw [ek]
    by_cases z : j = i
    · rw [z, e, un_s, un_s]
      have := (h2 i hi).2.1
      rw [e] at this
      exact ⟨rfl, this, hv⟩
    · have : yk (b + j) ≠ k := fun y => z (h4 j i hj hi (y.trans e.symm))
      rw [un_n this, un_n (by omega)]
      exact h2 j hj
  · by_cases z : k' = k
    · exact ⟨i, hi, by rw [ek, z]; exact e⟩
    · rw [un_n z] at hk'
      obtain ⟨j, hj, y⟩ := h3 k' hk'
      exact ⟨j, hj, by rw [ek]; exact y⟩
theorem ro_r {f yk yv : Nat → Nat} {b m k i : Nat} (h : ro_R f yk yv b (m + 1)) (hi : i < m + 1) (e : yk (b + i) = k) : ro_R (un_u f k 0) (un_u yk (b + i) (yk (b + m))) (un_u yv (b + i) (yv (b + m))) b m := by
  obtain ⟨h1, h2, h3, h4⟩ := h
  have nk : ∀ j, j < m + 1 → j ≠ i → yk (b + j) ≠ k := fun j hj z y => z (h4 j i hj hi (y.trans e.symm))
  refine ⟨by omega, fun j hj => ?_, fun k' hk' => ?_, fun a c ha hc y => ?_⟩
  · by_cases z : j = i
    · rw [z, un_s, un_s, un_n (nk m (by omega) (by omega))]
      exact h2 m (by omega)
    · have e1 : un_u yk (b + i) (yk (b + m)) (b + j) = yk (b + j) := un_n (by omega)
      have e2 : un_u yv (b + i) (yv (b + m)) (b + j) = yv (b + j) := un_n (by omega)
      rw [e1, e2, un_n (nk j (by omega) z)]
      exact h2 j (by omega)
  · have z : k' ≠ k := fun z => hk' (by rw [z, un_s])
    rw [un_n z] at hk'
    obtain ⟨j, hj, y⟩ := h3 k' hk'
    by_cases w : j = m
    · refine ⟨i, ?_, by rw [un_s, ← w]; exact y⟩
      apply Classical.byContradiction
      intro x
      have : i = j := by omega
      rw [← this, e] at y
      exact z y.symm
    · have ji : j ≠ i := fun x => z (by rw [← y, x]; exact e)
      exact ⟨j, by omega, by rw [un_n (by omega)]; exact y⟩
  · by_cases z : a = i
    · by_cases w : c = i
      · omega
      · rw [z, un_s, un_n (by omega)] at y
        have := h4 m c (by omega) (by omega) y
        omega
    · by_cases w : c = i
      · rw [w, un_s, un_n (by omega)] at y
        have := h4 a m (by omega) (by omega) y
        omega
      · rw [un_n (by omega), un_n (by omega)] at y
        exact h4 a c (by omega) (by omega) y
theorem ro_y {f yk yv yk' yv' : Nat → Nat} {n b : Nat} (h : ro_R f yk yv 0 n) (e : ∀ i, i < n → yk' (b + i) = yk i ∧ yv' (b + i) = yv i) : ro_R f yk' yv' b n := by
  obtain ⟨h1, h2, h3, h4⟩ := h
  refine ⟨h1, fun i hi => ?_, fun k hk => ?_, fun i j hi hj y => ?_⟩
  · rw [(e i hi).1, (e i hi).2]
    have := h2 i hi
    rw [Nat.zero_add] at this
    exact this
  · obtain ⟨i, hi, y⟩ := h3 k hk
    rw [Nat.zero_add] at y
    exact ⟨i, hi, by rw [(e i hi).1]; exact y⟩
  · rw [(e i hi).1, (e j hj).1] at y
    exact h4 i j hi hj (by rw [Nat.zero_add, Nat.zero_add]; exact y)
def rl_F (cn sn tn fc ep : Nat) (H : Nat → Nat → Nat) (rt : Nat → Nat) (tk so ki ko vo nc nd st su : Nat → Int32) (ys yk yv : Nat → Nat) (B : Nat) : Prop :=
  (2 ≤ cn ∧ cn ≤ 24) ∧ (1 ≤ sn ∧ sn ≤ 4) ∧ (1 ≤ tn ∧ tn ≤ 4) ∧ hp_C H rt fc hp_x 0 ∧ hp_E H rt ep ∧ ep ≤ B ∧ tk 0 ≠ 0 ∧ (∀ s, s < 5 → tk s = 0 → rt s = 0) ∧
  (∀ s, s < 5 → tk s ≠ 0 → ys s ≤ cn ∧ ro_R (mp_m H (rt s)) yk yv (s * 24) (ys s)) ∧
  (∀ t, t < 4 → (∃ k, k < 65536 ∧ ko t = nI k) ∧ (∃ v, v < 2147483648 ∧ vo t = nI v)) ∧
  (∀ t, t < 4 → so t ≠ 0 → so t ≠ 1 → so t ≠ 3 → so t ≠ 4 → ki t ≠ 4 → st t = su t) ∧ (∀ t, t < 4 → so t ≠ 0 → so t ≠ 1 → so t ≠ 4 → ki t = 4 → nc t = nd t)
def rl_R (B : Nat) (u : SX) (v : SY) : Prop :=
  ∃ (cn sn tn fc ep : Nat) (H : Nat → Nat → Nat) (rt : Nat → Nat) (pc : Int32) (pd pA pB ca tk so ro se ki ko vo ng nc st nd su : Nat → Int32) (ys yk yv : Nat → Nat),
    rl_F cn sn tn fc ep H rt tk so ki ko vo nc nd st su ys yk yv B ∧ u = ((nI cn), (nI sn), (nI tn), (nI fc), pc, (lN ep), (fun i => nI (hp_m (H 0 i))), (fun i => nI (H 1 i)), (fun i => nI (H 2 i)), (fun i => nI (H 3 i)), (fun i => nI (H 4 i)), (fun i => nI (H 5 i)), (fun i => nI (H 6 i)), (fun i => lN (H 7 i)), (fun i => nI (H 8 i)), pd, pA, pB, (fun i => nI (rt i)), ca, tk, so, ro, se, ki, ko, vo, ng, nc, st) ∧ v = ((nI cn), (nI sn), (nI tn), (nI ep), tk, (fun i => nI (ys i)), ca, (fun i => nI (yk i)), (fun i => nI (yv i)), so, ro, ki, ko, vo, ng, nd, se, su)
theorem rl_el {B : Nat} {u : SX} {v : SY} {P : SX → SY → Prop} (I : rl_R B u v)
    (h : ∀ (cn sn tn fc ep : Nat) (H : Nat → Nat → Nat) (rt : Nat → Nat) (pc : Int32) (pd pA pB ca tk so ro se ki ko vo ng nc st nd su : Nat → Int32) (ys yk yv : Nat → Nat),
      rl_F cn sn tn fc ep H rt tk so ki ko vo nc nd st su ys yk yv B → P ((nI cn), (nI sn), (nI tn), (nI fc), pc, (lN ep), (fun i => nI (hp_m (H 0 i))), (fun i => nI (H 1 i)), (fun i => nI (H 2 i)), (fun i => nI (H 3 i)), (fun i => nI (H 4 i)), (fun i => nI (H 5 i)), (fun i => nI (H 6 i)), (fun i => lN (H 7 i)), (fun i => nI (H 8 i)), pd, pA, pB, (fun i => nI (rt i)), ca, tk, so, ro, se, ki, ko, vo, ng, nc, st) ((nI cn), (nI sn), (nI tn), (nI ep), tk, (fun i => nI (ys i)), ca, (fun i => nI (yk i)), (fun i => nI (yv i)), so, ro, ki, ko, vo, ng, nd, se, su)) : P u v := by
  obtain ⟨cn, sn, tn, fc, ep, H, rt, pc, pd, pA, pB, ca, tk, so, ro, se, ki, ko, vo, ng, nc, st, nd, su, ys, yk, yv, F, e1, e2⟩ := I
  rw [e1, e2]
  exact h cn sn tn fc ep H rt pc pd pA pB ca tk so ro se ki ko vo ng nc st nd su ys yk yv F
theorem rl_in {B cn sn tn fc ep : Nat} {H : Nat → Nat → Nat} {rt : Nat → Nat} {pc : Int32} {pd pA pB ca tk so ro se ki ko vo ng nc st nd su : Nat → Int32} {ys yk yv : Nat → Nat}
    (F : rl_F cn sn tn fc ep H rt tk so ki ko vo nc nd st su ys yk yv B) : rl_R B ((nI cn), (nI sn), (nI tn), (nI fc), pc, (lN ep), (fun i => nI (hp_m (H 0 i))), (fun i => nI (H 1 i)), (fun i => nI (H 2 i)), (fun i => nI (H 3 i)), (fun i => nI (H 4 i)), (fun i => nI (H 5 i)), (fun i => nI (H 6 i)), (fun i => lN (H 7 i)), (fun i => nI (H 8 i)), pd, pA, pB, (fun i => nI (rt i)), ca, tk, so, ro, se, ki, ko, vo, ng, nc, st) ((nI cn), (nI sn), (nI tn), (nI ep), tk, (fun i => nI (ys i)), ca, (fun i => nI (yk i)), (fun i => nI (yv i)), so, ro, ki, ko, vo, ng, nd, se, su) :=
  ⟨cn, sn, tn, fc, ep, H, rt, pc, pd, pA, pB, ca, tk, so, ro, se, ki, ko, vo, ng, nc, st, nd, su, ys, yk, yv, F, rfl, rfl⟩
def i_Rel (k : Nat) (u : SX) (v : SY) : Prop := rl_R (8 * k) u v
theorem rl_b {B B' : Nat} {u : SX} {v : SY} (h : B ≤ B') (I : rl_R B u v) : rl_R B' u v := by
  refine rl_el (P := fun u v => rl_R B' u v) I ?_
  intro cn sn tn fc ep H rt pc pd pA pB ca tk so ro se ki ko vo ng nc st nd su ys yk yv F
  obtain ⟨f1, f2, f3, f4, f5, f6, f7⟩ := F
  exact rl_in ⟨f1, f2, f3, f4, f5, by omega, f7⟩
theorem i_up {k : Nat} {u : SX} {v : SY} (h : i_Rel k u v) : i_Rel (k + 5) u v := rl_b (by omega) h
section
variable {cn sn tn fc ep B : Nat} {H : Nat → Nat → Nat} {rt : Nat → Nat} {tk so ki ko vo nc nd st su : Nat → Int32} {ys yk yv : Nat → Nat}
theorem rl_3 (F : rl_F cn sn tn fc ep H rt tk so ki ko vo nc nd st su ys yk yv B) {s : Nat} (hs : s < 5) : H 3 (rt s) ≤ 24 ∧ cn_c (mp_m H (rt s)) 65536 = H 3 (rt s) ∧ (tk s ≠ 0 → ys s = H 3 (rt s)) := by
  obtain ⟨f1, f2, f3, C, E, f6, f7, f8, f9, f10⟩ := F
  have T := hp_CT C hp_xz
  have sr := hp_rS C hp_xz hs
  have h3 := mp_n T (hp_CN C) 16 (rt s) (hp_l16 T sr) sr
  refine ⟨?_, h3.symm, fun z => ?_⟩
  · by_cases z : tk s = 0
    · rw [f8 s hs z, C.1.2.2.1]; omega
    · have := f9 s hs z
      have h4 := ro_n this.2
      have := this.2.1
      omega
  · rw [h3]
    exact ro_n (f9 s hs z).2
theorem rl_20 (F : rl_F cn sn tn fc ep H rt tk so ki ko vo nc nd st su ys yk yv B) : 20 ≤ fc := hp_room F.2.2.2.1 hp_x0 (fun s hs => (rl_3 F hs).1)
end
end
section
/-! checks in lockstep; methods that only read -/
theorem m1_a : (-1 : Int32).toInt = -1 := by decide
section
variable {sl pc : Int32} {pd pA pB ca tk so ro se ki ko vo ng nc st nd su : Nat → Int32} {H : Nat → Nat → Nat} {rt ys yk yv : Nat → Nat} {cn sn tn fc ep : Nat}
theorem it_wp (p : Int32) (h4 : tn ≤ 4) : (∃ t, t < tn ∧ p = nI t ∧ (∀ post : Int32 → Prop, post 1 → wpX_isThread post ((nI cn), (nI sn), (nI tn), (nI fc), pc, (lN ep), (fun i => nI (hp_m (H 0 i))), (fun i => nI (H 1 i)), (fun i => nI (H 2 i)), (fun i => nI (H 3 i)), (fun i => nI (H 4 i)), (fun i => nI (H 5 i)), (fun i => nI (H 6 i)), (fun i => lN (H 7 i)), (fun i => nI (H 8 i)), pd, pA, pB, (fun i => nI (rt i)), ca, tk, so, ro, se, ki, ko, vo, ng, nc, st) p) ∧ (∀ post : Int32 → Prop, post 1 → wpY_isThread post ((nI cn), (nI sn), (nI tn), (nI ep), tk, (fun i => nI (ys i)), ca, (fun i => nI (yk i)), (fun i => nI (yv i)), so, ro, ki, ko, vo, ng, nd, se, su) p)) ∨
    ((∀ post : Int32 → Prop, post 0 → wpX_isThread post ((nI cn), (nI sn), (nI tn), (nI fc), pc, (lN ep), (fun i => nI (hp_m (H 0 i))), (fun i => nI (H 1 i)), (fun i => nI (H 2 i)), (fun i => nI (H 3 i)), (fun i => nI (H 4 i)), (fun i => nI (H 5 i)), (fun i => nI (H 6 i)), (fun i => lN (H 7 i)), (fun i => nI (H 8 i)), pd, pA, pB, (fun i => nI (rt i)), ca, tk, so, ro, se, ki, ko, vo, ng, nc, st) p) ∧ (∀ post : Int32 → Prop, post 0 → wpY_isThread post ((nI cn), (nI sn), (nI tn), (nI ep), tk, (fun i => nI (ys i)), ca, (fun i => nI (yk i)), (fun i => nI (yv i)), so, ro, ki, ko, vo, ng, nd, se, su) p)) := by
  by_cases a : p < 0
  · exact Or.inr ⟨fun post hp => br_t a hp, fun post hp => br_t a hp⟩
  · by_cases b : nI tn ≤ p
    · exact Or.inr ⟨fun post hp => br_f a (br_t b hp), fun post hp => br_f a (br_t b hp)⟩
    · obtain ⟨t, ht, rfl⟩ := nI_of a
      refine Or.inl ⟨t, ?_, rfl, fun post hp => br_f a (br_f b hp), fun post hp => br_f a (br_f b hp)⟩
      rw [nI_leI (by omega) ht] at b
      omega
theorem iy_wp (p : Int32) (h4 : tn ≤ 4) : (∃ t, t < tn ∧ p = nI t ∧ so t ≠ 0 ∧ (∀ post : Int32 → Prop, post 1 → wpX_isBusy post ((nI cn), (nI sn), (nI tn), (nI fc), pc, (lN ep), (fun i => nI (hp_m (H 0 i))), (fun i => nI (H 1 i)), (fun i => nI (H 2 i)), (fun i => nI (H 3 i)), (fun i => nI (H 4 i)), (fun i => nI (H 5 i)), (fun i => nI (H 6 i)), (fun i => lN (H 7 i)), (fun i => nI (H 8 i)), pd, pA, pB, (fun i => nI (rt i)), ca, tk, so, ro, se, ki, ko, vo, ng, nc, st) p) ∧ (∀ post : Int32 → Prop, post 1 → wpY_isBusy post ((nI cn), (nI sn), (nI tn), (nI ep), tk, (fun i => nI (ys i)), ca, (fun i => nI (yk i)), (fun i => nI (yv i)), so, ro, ki, ko, vo, ng, nd, se, su) p)) ∨
    ((∀ post : Int32 → Prop, post 0 → wpX_isBusy post ((nI cn), (nI sn), (nI tn), (nI fc), pc, (lN ep), (fun i => nI (hp_m (H 0 i))), (fun i => nI (H 1 i)), (fun i => nI (H 2 i)), (fun i => nI (H 3 i)), (fun i => nI (H 4 i)), (fun i => nI (H 5 i)), (fun i => nI (H 6 i)), (fun i => lN (H 7 i)), (fun i => nI (H 8 i)), pd, pA, pB, (fun i => nI (rt i)), ca, tk, so, ro, se, ki, ko, vo, ng, nc, st) p) ∧ (∀ post : Int32 → Prop, post 0 → wpY_isBusy post ((nI cn), (nI sn), (nI tn), (nI ep), tk, (fun i => nI (ys i)), ca, (fun i => nI (yk i)), (fun i => nI (yv i)), so, ro, ki, ko, vo, ng, nd, se, su) p)) := by
  by_cases a : p < 0
  · exact Or.inr ⟨fun post hp => br_t a (br_t rfl hp), fun post hp => br_t a hp⟩
  · by_cases b : nI tn ≤ p
    · exact Or.inr ⟨fun post hp => br_f a (br_t b (br_t rfl hp)), fun post hp => br_f a (br_t b hp)⟩
    · obtain ⟨t, ht, rfl⟩ := nI_of a
      have ht4 : t < tn := by
        rw [nI_leI (by omega) ht] at b
        omega
      have it : vp_in (nI t) 4 := vp_in_nI (by omega) (by decide)
      have ct : (nI t).toNatClampNeg = t := nI_clamp ht
      by_cases z : so t = 0
      · have z' : so (nI t).toNatClampNeg = 0 := by rw [ct]; exact z
        exact Or.inr ⟨fun post hp => br_f a (br_f b (br_f (by decide) ⟨it, br_t z' hp⟩)), fun post hp => br_f a (br_f b ⟨it, br_t z' hp⟩)⟩
      · have z' : ¬ so (nI t).toNatClampNeg = 0 := by rw [ct]; exact z
        exact Or.inl ⟨t, ht4, rfl, z, fun post hp => br_f a (br_f b (br_f (by decide) ⟨it, br_f z' hp⟩)), fun post hp => br_f a (br_f b ⟨it, br_f z' hp⟩)⟩
theorem iv_wp (p : Int32) (h4 : sn ≤ 4) : (∃ s, s < 5 ∧ p + 1 = nI s ∧ ((s = 0 ∧ p = -1) ∨ ∃ j, s = j + 1 ∧ p = nI j) ∧ tk s ≠ 0 ∧ (∀ post : Int32 → Prop, post 1 → wpX_isVersion post ((nI cn), (nI sn), (nI tn), (nI fc), pc, (lN ep), (fun i => nI (hp_m (H 0 i))), (fun i => nI (H 1 i)), (fun i => nI (H 2 i)), (fun i => nI (H 3 i)), (fun i => nI (H 4 i)), (fun i => nI (H 5 i)), (fun i => nI (H 6 i)), (fun i => lN (H 7 i)), (fun i => nI (H 8 i)), pd, pA, pB, (fun i => nI (rt i)), ca, tk, so, ro, se, ki, ko, vo, ng, nc, st) p) ∧ (∀ post : Int32 → Prop, post 1 → wpY_isVersion post ((nI cn), (nI sn), (nI tn), (nI ep), tk, (fun i => nI (ys i)), ca, (fun i => nI (yk i)), (fun i => nI (yv i)), so, ro, ki, ko, vo, ng, nd, se, su) p)) ∨
    ((∀ post : Int32 → Prop, post 0 → wpX_isVersion post ((nI cn), (nI sn), (nI tn), (nI fc), pc, (lN ep), (fun i => nI (hp_m (H 0 i))), (fun i => nI (H 1 i)), (fun i => nI (H 2 i)), (fun i => nI (H 3 i)), (fun i => nI (H 4 i)), (fun i => nI (H 5 i)), (fun i => nI (H 6 i)), (fun i => lN (H 7 i)), (fun i => nI (H 8 i)), pd, pA, pB, (fun i => nI (rt i)), ca, tk, so, ro, se, ki, ko, vo, ng, nc, st) p) ∧ (∀ post : Int32 → Prop, post 0 → wpY_isVersion post ((nI cn), (nI sn), (nI tn), (nI ep), tk, (fun i => nI (ys i)), ca, (fun i => nI (yk i)), (fun i => nI (yv i)), so, ro, ki, ko, vo, ng, nd, se, su) p)) := by
  by_cases a : p < -1
  · exact Or.inr ⟨fun post hp => br_t a hp, fun post hp => br_t a hp⟩
  · by_cases b : nI sn ≤ p
    · exact Or.inr ⟨fun post hp => br_f a (br_t b hp), fun post hp => br_f a (br_t b hp)⟩
    · obtain ⟨s, hs, e, k⟩ : ∃ s, s < 5 ∧ p + 1 = nI s ∧ ((s = 0 ∧ p = -1) ∨ ∃ j, s = j + 1 ∧ p = nI j) := by
        by_cases c : p = -1
        · exact ⟨0, by omega, by rw [c]; decide, Or.inl ⟨rfl, c⟩⟩
        · have d : ¬ p < 0 := by
            intro z
            rw [Int32.lt_iff_toInt_lt] at z a
            rw [← Int32.toInt_inj, m1_a] at c
            rw [m1_a] at a
            have : (0 : Int32).toInt = 0 := by decide
            omega
          obtain ⟨j, hj, rfl⟩ := nI_of d
          rw [nI_leI (by omega) hj] at b
          exact ⟨j + 1, by omega, nI_1 j, Or.inr ⟨j, rfl, rfl⟩⟩
      have is : vp_in (p + 1) 5 := by rw [e]; exact vp_in_nI hs (by decide)
      have cs : (p + 1).toNatClampNeg = s := by rw [e]; exact nI_clamp (by omega)
      by_cases z : tk s = 0
      · have z' : tk (p + 1).toNatClampNeg = 0 := by rw [cs]; exact z
        exact Or.inr ⟨fun post hp => br_f a (br_f b ⟨is, br_t z' hp⟩), fun post hp => br_f a (br_f b ⟨is, br_t z' hp⟩)⟩
      · have z' : ¬ tk (p + 1).toNatClampNeg = 0 := by rw [cs]; exact z
        exact Or.inl ⟨s, hs, e, k, z, fun post hp => br_f a (br_f b ⟨is, br_f z' hp⟩), fun post hp => br_f a (br_f b ⟨is, br_f z' hp⟩)⟩
end
theorem i_vc_stage {k : Nat} {u : SX} {v : SY} (I : i_Rel k u v) (hk : k + 5 ≤ 2563) (v1 : Int32) : wpX_stage (fun r => wpY_stage (fun r' => r' = r ∧ i_Rel (k + 5) u v) v v1) u v1 := by
  refine rl_el (P := fun u v => wpX_stage (fun r => wpY_stage (fun r' => r' = r ∧ i_Rel (k + 5) u v) v v1) u v1) I ?_
  intro cn sn tn fc ep H rt pc pd pA pB ca tk so ro se ki ko vo ng nc st nd su ys yk yv F
  have J := i_up (k := k) (rl_in (pc := pc) (pd := pd) (pA := pA) (pB := pB) (ca := ca) (ro := ro) (se := se) (ng := ng) F)
  have t4 := F.2.2.1.2
  unfold wpX_stage wpY_stage
  rcases it_wp (pc := pc) (pd := pd) (pA := pA) (pB := pB) (ca := ca) (tk := tk) (so := so) (ro := ro) (se := se) (ki := ki) (ko := ko) (vo := vo) (ng := ng) (nc := nc) (st := st) (nd := nd) (su := su) (H := H) (rt := rt) (ys := ys) (yk := yk) (yv := yv) (cn := cn) (sn := sn) (fc := fc) (ep := ep) v1 t4 with ⟨t, ht, rfl, hX, hY⟩ | ⟨hX, hY⟩
  · have it : vp_in (nI t) 4 := vp_in_nI (by omega) (by decide)
    exact hX _ (br_f (by decide) ⟨it, hY _ (br_f (by decide) ⟨it, rfl, J⟩)⟩)
  · exact hX _ (br_t rfl (hY _ (br_t rfl ⟨rfl, J⟩)))
theorem i_vc_result {k : Nat} {u : SX} {v : SY} (I : i_Rel k u v) (hk : k + 5 ≤ 2563) (v1 : Int32) : wpX_result (fun r => wpY_result (fun r' => r' = r ∧ i_Rel (k + 5) u v) v v1) u v1 := by
  refine rl_el (P := fun u v => wpX_result (fun r => wpY_result (fun r' => r' = r ∧ i_Rel (k + 5) u v) v v1) u v1) I ?_
  intro cn sn tn fc ep H rt pc pd pA pB ca tk so ro se ki ko vo ng nc st nd su ys yk yv F
  have J := i_up (k := k) (rl_in (pc := pc) (pd := pd) (pA := pA) (pB := pB) (ca := ca) (ro := ro) (se := se) (ng := ng) F)
  have t4 := F.2.2.1.2
  unfold wpX_result wpY_result
  rcases it_wp (pc := pc) (pd := pd) (pA := pA) (pB := pB) (ca := ca) (tk := tk) (so := so) (ro := ro) (se := se) (ki := ki) (ko := ko) (vo := vo) (ng := ng) (nc := nc) (st := st) (nd := nd) (su := su) (H := H) (rt := rt) (ys := ys) (yk := yk) (yv := yv) (cn := cn) (sn := sn) (fc := fc) (ep := ep) v1 t4 with ⟨t, ht, rfl, hX, hY⟩ | ⟨hX, hY⟩
  · have it : vp_in (nI t) 4 := vp_in_nI (by omega) (by decide)
    exact hX _ (br_f (by decide) ⟨it, hY _ (br_f (by decide) ⟨it, rfl, J⟩)⟩)
  · exact hX _ (br_t rfl (hY _ (br_t rfl ⟨rfl, J⟩)))
theorem i_vc_operand {k : Nat} {u : SX} {v : SY} (I : i_Rel k u v) (hk : k + 5 ≤ 2563) (v1 : Int32) (v2 : Int32) : wpX_operand (fun r => wpY_operand (fun r' => r' = r ∧ i_Rel (k + 5) u v) v v1 v2) u v1 v2 := by
  refine rl_el (P := fun u v => wpX_operand (fun r => wpY_operand (fun r' => r' = r ∧ i_Rel (k + 5) u v) v v1 v2) u v1 v2) I ?_
  intro cn sn tn fc ep H rt pc pd pA pB ca tk so ro se ki ko vo ng nc st nd su ys yk yv F
  have J := i_up (k := k) (rl_in (pc := pc) (pd := pd) (pA := pA) (pB := pB) (ca := ca) (ro := ro) (se := se) (ng := ng) F)
  have t4 := F.2.2.1.2
  unfold wpX_operand wpY_operand
  rcases iy_wp (pc := pc) (pd := pd) (pA := pA) (pB := pB) (ca := ca) (tk := tk) (so := so) (ro := ro) (se := se) (ki := ki) (ko := ko) (vo := vo) (ng := ng) (nc := nc) (st := st) (nd := nd) (su := su) (H := H) (rt := rt) (ys := ys) (yk := yk) (yv := yv) (cn := cn) (sn := sn) (fc := fc) (ep := ep) v1 t4 with ⟨t, ht, rfl, hz, hX, hY⟩ | ⟨hX, hY⟩
  · have it : vp_in (nI t) 4 := vp_in_nI (by omega) (by decide)
    refine hX _ (br_f (by decide) ?_)
    by_cases a : v2 = 0
    · exact br_t a ⟨it, hY _ (br_f (by decide) (br_t a ⟨it, rfl, J⟩))⟩
    · by_cases b : v2 = 1
      · exact br_f a (br_t b ⟨it, hY _ (br_f (by decide) (br_f a (br_t b ⟨it, rfl, J⟩)))⟩)
      · by_cases c : v2 = 2
        · exact br_f a (br_f b (br_t c ⟨it, hY _ (br_f (by decide) (br_f a (br_f b (br_t c ⟨it, rfl, J⟩))))⟩))
        · by_cases d : v2 = 3
          · refine br_f a (br_f b (br_f c (br_t d ⟨it, br_c (fun e => ⟨it, hY _ (br_f (by decide) (br_f a (br_f b (br_f c (br_t d ⟨it, br_t e ⟨it, rfl, J⟩⟩)))))⟩) (fun e => hY _ (br_f (by decide) (br_f a (br_f b (br_f c (br_t d ⟨it, br_f e ⟨rfl, J⟩⟩))))))⟩)))
          · exact br_f a (br_f b (br_f c (br_f d (hY _ (br_f (by decide) (br_f a (br_f b (br_f c (br_f d ⟨rfl, J⟩)))))))))
  · exact hX _ (br_t rfl (hY _ (br_t rfl ⟨rfl, J⟩)))
theorem i_vc_generation {k : Nat} {u : SX} {v : SY} (I : i_Rel k u v) (hk : k + 5 ≤ 2563) : wpX_generation (fun r => wpY_generation (fun r' => r' = r ∧ i_Rel (k + 5) u v) v) u := by
  refine rl_el (P := fun u v => wpX_generation (fun r => wpY_generation (fun r' => r' = r ∧ i_Rel (k + 5) u v) v) u) I ?_
  intro cn sn tn fc ep H rt pc pd pA pB ca tk so ro se ki ko vo ng nc st nd su ys yk yv F
  have J := i_up (k := k) (rl_in (pc := pc) (pd := pd) (pA := pA) (pB := pB) (ca := ca) (ro := ro) (se := se) (ng := ng) F)
  exact ⟨(lN_i ep).symm, J⟩
theorem i_vc_changes {k : Nat} {u : SX} {v : SY} (I : i_Rel k u v) (hk : k + 5 ≤ 2563) (v1 : Int32) : wpX_changes (fun r => wpY_changes (fun r' => r' = r ∧ i_Rel (k + 5) u v) v v1) u v1 := by
  refine rl_el (P := fun u v => wpX_changes (fun r => wpY_changes (fun r' => r' = r ∧ i_Rel (k + 5) u v) v v1) u v1) I ?_
  intro cn sn tn fc ep H rt pc pd pA pB ca tk so ro se ki ko vo ng nc st nd su ys yk yv F
  have J := i_up (k := k) (rl_in (pc := pc) (pd := pd) (pA := pA) (pB := pB) (ca := ca) (ro := ro) (se := se) (ng := ng) F)
  have t4 := F.2.1.2
  unfold wpX_changes wpY_changes
  rcases iv_wp (tn := tn) (pc := pc) (pd := pd) (pA := pA) (pB := pB) (ca := ca) (tk := tk) (so := so) (ro := ro) (se := se) (ki := ki) (ko := ko) (vo := vo) (ng := ng) (nc := nc) (st := st) (nd := nd) (su := su) (H := H) (rt := rt) (ys := ys) (yk := yk) (yv := yv) (cn := cn) (fc := fc) (ep := ep) v1 t4 with ⟨s, hs, e, _, hz, hX, hY⟩ | ⟨hX, hY⟩
  · have is : vp_in (v1 + 1) 5 := by rw [e]; exact vp_in_nI hs (by decide)
    exact hX _ (br_f (by decide) ⟨is, hY _ (br_f (by decide) ⟨is, rfl, J⟩)⟩)
  · exact hX _ (br_t rfl (hY _ (br_t rfl ⟨rfl, J⟩)))
theorem i_vc_size {k : Nat} {u : SX} {v : SY} (I : i_Rel k u v) (hk : k + 5 ≤ 2563) (v1 : Int32) : wpX_size (fun r => wpY_size (fun r' => r' = r ∧ i_Rel (k + 5) u v) v v1) u v1 := by
  refine rl_el (P := fun u v => wpX_size (fun r => wpY_size (fun r' => r' = r ∧ i_Rel (k + 5) u v) v v1) u v1) I ?_
  intro cn sn tn fc ep H rt pc pd pA pB ca tk so ro se ki ko vo ng nc st nd su ys yk yv F
  have J := i_up (k := k) (rl_in (pc := pc) (pd := pd) (pA := pA) (pB := pB) (ca := ca) (ro := ro) (se := se) (ng := ng) F)
  have t4 := F.2.1.2
  unfold wpX_size wpY_size
  rcases iv_wp (tn := tn) (pc := pc) (pd := pd) (pA := pA) (pB := pB) (ca := ca) (tk := tk) (so := so) (ro := ro) (se := se) (ki := ki) (ko := ko) (vo := vo) (ng := ng) (nc := nc) (st := st) (nd := nd) (su := su) (H := H) (rt := rt) (ys := ys) (yk := yk) (yv := yv) (cn := cn) (fc := fc) (ep := ep) v1 t4 with ⟨s, hs, e, _, hz, hX, hY⟩ | ⟨hX, hY⟩
  · have is : vp_in (v1 + 1) 5 := by rw [e]; exact vp_in_nI hs (by decide)
    have cs : (v1 + 1).toNatClampNeg = s := by rw [e]; exact nI_clamp (by omega)
    have r8 := F.2.2.2.1.2.2.2.1 s hs
    have cr : (nI (rt s)).toNatClampNeg = rt s := nI_clamp (by omega)
    refine hX _ (br_f (by decide) ⟨is, ?_, hY _ (br_f (by decide) ⟨is, ?_, J⟩)⟩)
    · dsimp only
      rw [cs]
      exact vp_in_nI r8 (by decide)
    · dsimp only
      rw [cs, cr, (rl_3 F hs).2.2 hz]
  · exact hX _ (br_t rfl (hY _ (br_t rfl ⟨rfl, J⟩)))
theorem i_vc_get {k : Nat} {u : SX} {v : SY} (I : i_Rel k u v) (hk : k + 5 ≤ 2563) (v1 : Int32) (v2 : Int32) : wpX_get (fun r => wpY_get (fun r' => r' = r ∧ i_Rel (k + 5) u v) v v1 v2) u v1 v2 := by
  refine rl_el (P := fun u v => wpX_get (fun r => wpY_get (fun r' => r' = r ∧ i_Rel (k + 5) u v) v v1 v2) u v1 v2) I ?_
  intro cn sn tn fc ep H rt pc pd pA pB ca tk so ro se ki ko vo ng nc st nd su ys yk yv F
  have J := i_up (k := k) (rl_in (pc := pc) (pd := pd) (pA := pA) (pB := pB) (ca := ca) (ro := ro) (se := se) (ng := ng) F)
  have t4 := F.2.1.2
  have C := F.2.2.2.1
  have T := hp_CT C hp_xz
  unfold wpX_get wpY_get
  rcases iv_wp (tn := tn) (pc := pc) (pd := pd) (pA := pA) (pB := pB) (ca := ca) (tk := tk) (so := so) (ro := ro) (se := se) (ki := ki) (ko := ko) (vo := vo) (ng := ng) (nc := nc) (st := st) (nd := nd) (su := su) (H := H) (rt := rt) (ys := ys) (yk := yk) (yv := yv) (cn := cn) (fc := fc) (ep := ep) v1 t4 with ⟨s, hs, e, _, hz, hX, hY⟩ | ⟨hX, hY⟩
  · have is : vp_in (v1 + 1) 5 := by rw [e]; exact vp_in_nI hs (by decide)
    have cs : (v1 + 1).toNatClampNeg = s := by rw [e]; exact nI_clamp (by omega)
    obtain ⟨kn, hkn, rfl⟩ := wb_of32 v2
    refine hX _ (br_f (by decide) ⟨is, ?_⟩)
    dsimp only
    rw [cs]
    refine lk_wp T (hp_rS C hp_xz hs) hkn (hY _ (br_f (by decide) ?_))
    rw [e]
    exact yl_wp hs (F.2.2.2.2.2.2.2.2.1 s hs hz).2 hkn ⟨rfl, J⟩
  · exact hX _ (br_t rfl (hY _ (br_t rfl ⟨rfl, J⟩)))
theorem i_vc_count {k : Nat} {u : SX} {v : SY} (I : i_Rel k u v) (hk : k + 5 ≤ 2563) (v1 : Int32) (v2 : Int32) (v3 : Int32) : wpX_count (fun r => wpY_count (fun r' => r' = r ∧ i_Rel (k + 5) u v) v v1 v2 v3) u v1 v2 v3 := by
  refine rl_el (P := fun u v => wpX_count (fun r => wpY_count (fun r' => r' = r ∧ i_Rel (k + 5) u v) v v1 v2 v3) u v1 v2 v3) I ?_
  intro cn sn tn fc ep H rt pc pd pA pB ca tk so ro se ki ko vo ng nc st nd su ys yk yv F
  have J := i_up (k := k) (rl_in (pc := pc) (pd := pd) (pA := pA) (pB := pB) (ca := ca) (ro := ro) (se := se) (ng := ng) F)
  have t4 := F.2.1.2
  have C := F.2.2.2.1
  have T := hp_CT C hp_xz
  have N := hp_CN C
  unfold wpX_count wpY_count
  rcases iv_wp (tn := tn) (pc := pc) (pd := pd) (pA := pA) (pB := pB) (ca := ca) (tk := tk) (so := so) (ro := ro) (se := se) (ki := ki) (ko := ko) (vo := vo) (ng := ng) (nc := nc) (st := st) (nd := nd) (su := su) (H := H) (rt := rt) (ys := ys) (yk := yk) (yv := yv) (cn := cn) (fc := fc) (ep := ep) v1 t4 with ⟨s, hs, e, _, hz, hX, hY⟩ | ⟨hX, hY⟩
  · have is : vp_in (v1 + 1) 5 := by rw [e]; exact vp_in_nI hs (by decide)
    have cs : (v1 + 1).toNatClampNeg = s := by rw [e]; exact nI_clamp (by omega)
    have Rs := (F.2.2.2.2.2.2.2.2.1 s hs hz).2
    have sr := hp_rS C hp_xz hs
    have yw : ∀ post : Int32 → Prop, post (nI (cn_c (mp_m H (rt s)) (v3.toInt + 1).toNat - cn_c (mp_m H (rt s)) v2.toInt.toNat)) → ∃ n22 : Nat, wY_count_22 post v2 v3 (nI s) (nI cn) (nI sn) (nI tn) (nI ep) tk (fun i => nI (ys i)) ca (fun i => nI (yk i)) (fun i => nI (yv i)) so ro ki ko vo ng nd se su n22 0 0 := by
      intro post hp
      refine ⟨ys s + 1, co_l hs Rs v2 v3 (ys s) 0 0 (by omega) (by omega) post ?_ _ (by omega)⟩
      rw [Nat.zero_add, co_n Rs]
      exact hp
    refine hX _ (br_f (by decide) ?_)
    have l1 := Int32.le_iff_toInt_le (x := v2) (y := v3)
    by_cases a : v2 ≤ v3
    · have a' := l1.mp a
      have mono : cn_c (mp_m H (rt s)) v2.toInt.toNat ≤ cn_c (mp_m H (rt s)) (v3.toInt + 1).toNat := cn_le (by omega)
      have fin : ∀ z : Int32, cn_c (mp_m H (rt s)) z.toInt.toNat = cn_c (mp_m H (rt s)) (v3.toInt + 1).toNat → wX_count_42 (fun r => wpY_isVersion (fun r_1 => (r_1 = 0 → -3 = r ∧ i_Rel (k + 5) ((nI cn), (nI sn), (nI tn), (nI fc), pc, (lN ep), (fun i => nI (hp_m (H 0 i))), (fun i => nI (H 1 i)), (fun i => nI (H 2 i)), (fun i => nI (H 3 i)), (fun i => nI (H 4 i)), (fun i => nI (H 5 i)), (fun i => nI (H 6 i)), (fun i => lN (H 7 i)), (fun i => nI (H 8 i)), pd, pA, pB, (fun i => nI (rt i)), ca, tk, so, ro, se, ki, ko, vo, ng, nc, st) ((nI cn), (nI sn), (nI tn), (nI ep), tk, (fun i => nI (ys i)), ca, (fun i => nI (yk i)), (fun i => nI (yv i)), so, ro, ki, ko, vo, ng, nd, se, su)) ∧ (¬ r_1 = 0 → ∀ (x4_21 : Int32), x4_21 = v1 + 1 → ∃ n22, wY_count_22 (fun r' => r' = r ∧ i_Rel (k + 5) ((nI cn), (nI sn), (nI tn), (nI fc), pc, (lN ep), (fun i => nI (hp_m (H 0 i))), (fun i => nI (H 1 i)), (fun i => nI (H 2 i)), (fun i => nI (H 3 i)), (fun i => nI (H 4 i)), (fun i => nI (H 5 i)), (fun i => nI (H 6 i)), (fun i => lN (H 7 i)), (fun i => nI (H 8 i)), pd, pA, pB, (fun i => nI (rt i)), ca, tk, so, ro, se, ki, ko, vo, ng, nc, st) ((nI cn), (nI sn), (nI tn), (nI ep), tk, (fun i => nI (ys i)), ca, (fun i => nI (yk i)), (fun i => nI (yv i)), so, ro, ki, ko, vo, ng, nd, se, su)) v2 v3 x4_21 (nI cn) (nI sn) (nI tn) (nI ep) tk (fun i => nI (ys i)) ca (fun i => nI (yk i)) (fun i => nI (yv i)) so ro ki ko vo ng nd se su n22 0 0)) ((nI cn), (nI sn), (nI tn), (nI ep), tk, (fun i => nI (ys i)), ca, (fun i => nI (yk i)), (fun i => nI (yv i)), so, ro, ki, ko, vo, ng, nd, se, su) v1) v2 (nI (rt s)) z (nI cn) (nI sn) (nI tn) (nI fc) pc (lN ep) (fun i => nI (hp_m (H 0 i))) (fun i => nI (H 1 i)) (fun i => nI (H 2 i)) (fun i => nI (H 3 i)) (fun i => nI (H 4 i)) (fun i => nI (H 5 i)) (fun i => nI (H 6 i)) (fun i => lN (H 7 i)) (fun i => nI (H 8 i)) pd pA pB (fun i => nI (rt i)) ca tk so ro se ki ko vo ng nc st := by
        intro z hz2
        unfold wX_count_42
        refine kb_wp T N sr (kb_wp T N sr ?_)
        rw [hz2, pk_sub mono]
        exact hY _ (br_f (by decide) (nm_r e (yw _ ⟨rfl, J⟩)))
      refine br_t a ⟨is, nm_r (e' := nI (rt s)) (by dsimp only; rw [cs]) ?_⟩
      have l2 := Int32.le_iff_toInt_le (x := v3) (y := 65535)
      have l3 : (65535 : Int32).toInt = 65535 := by decide
      have l4 : (65536 : Int32).toInt = 65536 := by decide
      refine br_c (fun b => fin _ ?_) (fun b => fin _ ?_)
      · have b' := l2.mp b
        have h1 : (v3 + 1).toInt = v3.toInt + 1 := by
          have := v3.le_toInt
          rw [Int32.toInt_add]
          exact Int.bmod_eq_of_le (by have : (1 : Int32).toInt = 1 := by decide
                                      omega) (by have : (1 : Int32).toInt = 1 := by decide
                                                 omega)
        rw [h1]
      · have b' : ¬ v3.toInt ≤ (65535 : Int32).toInt := fun w => b (l2.mpr w)
        rw [l4]
        exact cn_eq (fun k hk => by
          have := mp_lt T sr hk
          omega)
    · have a' : ¬ v2.toInt ≤ v3.toInt := fun w => a (l1.mpr w)
      refine br_f a (hY _ (br_f (by decide) (nm_r e (yw _ ⟨?_, J⟩))))
      have := cn_le (f := mp_m H (rt s)) (a := (v3.toInt + 1).toNat) (b := v2.toInt.toNat) (by omega)
      rw [show cn_c (mp_m H (rt s)) (v3.toInt + 1).toNat - cn_c (mp_m H (rt s)) v2.toInt.toNat = 0 by omega]
      rfl
  · exact hX _ (br_t rfl (hY _ (br_t rfl ⟨rfl, J⟩)))
theorem i_vc_nextKey {k : Nat} {u : SX} {v : SY} (I : i_Rel k u v) (hk : k + 5 ≤ 2563) (v1 : Int32) (v2 : Int32) : wpX_nextKey (fun r => wpY_nextKey (fun r' => r' = r ∧ i_Rel (k + 5) u v) v v1 v2) u v1 v2 := by
  refine rl_el (P := fun u v => wpX_nextKey (fun r => wpY_nextKey (fun r' => r' = r ∧ i_Rel (k + 5) u v) v v1 v2) u v1 v2) I ?_
  intro cn sn tn fc ep H rt pc pd pA pB ca tk so ro se ki ko vo ng nc st nd su ys yk yv F
  have J := i_up (k := k) (rl_in (pc := pc) (pd := pd) (pA := pA) (pB := pB) (ca := ca) (ro := ro) (se := se) (ng := ng) F)
  have t4 := F.2.1.2
  have C := F.2.2.2.1
  have T := hp_CT C hp_xz
  unfold wpX_nextKey wpY_nextKey
  rcases iv_wp (tn := tn) (pc := pc) (pd := pd) (pA := pA) (pB := pB) (ca := ca) (tk := tk) (so := so) (ro := ro) (se := se) (ki := ki) (ko := ko) (vo := vo) (ng := ng) (nc := nc) (st := st) (nd := nd) (su := su) (H := H) (rt := rt) (ys := ys) (yk := yk) (yv := yv) (cn := cn) (fc := fc) (ep := ep) v1 t4 with ⟨s, hs, e, _, hz, hX, hY⟩ | ⟨hX, hY⟩
  · have is : vp_in (v1 + 1) 5 := by rw [e]; exact vp_in_nI hs (by decide)
    have cs : (v1 + 1).toNatClampNeg = s := by rw [e]; exact nI_clamp (by omega)
    have Rs := (F.2.2.2.2.2.2.2.2.1 s hs hz).2
    obtain ⟨r, hr, hw⟩ := ce_wp (cp := nI cn) (sl := nI sn) (th := nI tn) (pc := pc) (pd := pd) (pA := pA) (pB := pB) (ca := ca) (tk := tk) (so := so) (ro := ro) (se := se) (ki := ki) (ko := ko) (vo := vo) (ng := ng) (nc := nc) (st := st) (ep := ep) (rt := rt) (fc := fc) (bd := v2) T (hp_CN C) (hp_rS C hp_xz hs)
    obtain ⟨r', hr', hw'⟩ := nk_l (cp := nI cn) (sl := nI sn) (th := nI tn) (tk := tk) (ca := ca) (so := so) (ro := ro) (ki := ki) (ko := ko) (vo := vo) (ng := ng) (nd := nd) (se := se) (su := su) (ep := ep) hs Rs v2 (ys s) 0 (-1) (by omega) (Or.inl ⟨rfl, fun k ⟨_, j, hj, _⟩ => by omega⟩)
    have er := nd_u hr hr'
    subst er
    refine hX _ (br_f (by decide) ⟨is, ?_⟩)
    dsimp only
    rw [cs]
    exact hw _ (hY _ (br_f (by decide) (nm_r e ⟨ys s + 1, hw' _ ⟨rfl, J⟩ _ (by omega)⟩)))
  · exact hX _ (br_t rfl (hY _ (br_t rfl ⟨rfl, J⟩)))
theorem i_vc_nextDiff {k : Nat} {u : SX} {v : SY} (I : i_Rel k u v) (hk : k + 5 ≤ 2563) (v1 : Int32) (v2 : Int32) (v3 : Int32) : wpX_nextDiff (fun r u' => wpY_nextDiff (fun r' => r' = r ∧ i_Rel (k + 5) u' v) v v1 v2 v3) u v1 v2 v3 := by
  refine rl_el (P := fun u v => wpX_nextDiff (fun r u' => wpY_nextDiff (fun r' => r' = r ∧ i_Rel (k + 5) u' v) v v1 v2 v3) u v1 v2 v3) I ?_
  intro cn sn tn fc ep H rt pc pd pA pB ca tk so ro se ki ko vo ng nc st nd su ys yk yv F
  have J := fun (pc : Int32) (pA pB : Nat → Int32) => i_up (k := k) (rl_in (pc := pc) (pd := pd) (pA := pA) (pB := pB) (ca := ca) (ro := ro) (se := se) (ng := ng) F)
  have t4 := F.2.1.2
  have C := F.2.2.2.1
  have T := hp_CT C hp_xz
  unfold wpX_nextDiff wpY_nextDiff
  rcases iv_wp (tn := tn) (pc := pc) (pd := pd) (pA := pA) (pB := pB) (ca := ca) (tk := tk) (so := so) (ro := ro) (se := se) (ki := ki) (ko := ko) (vo := vo) (ng := ng) (nc := nc) (st := st) (nd := nd) (su := su) (H := H) (rt := rt) (ys := ys) (yk := yk) (yv := yv) (cn := cn) (fc := fc) (ep := ep) v1 t4 with ⟨s, hs, e, _, hz, hX, hY⟩ | ⟨hX, hY⟩
  · rcases iv_wp (tn := tn) (pc := pc) (pd := pd) (pA := pA) (pB := pB) (ca := ca) (tk := tk) (so := so) (ro := ro) (se := se) (ki := ki) (ko := ko) (vo := vo) (ng := ng) (nc := nc) (st := st) (nd := nd) (su := su) (H := H) (rt := rt) (ys := ys) (yk := yk) (yv := yv) (cn := cn) (fc := fc) (ep := ep) v2 t4 with ⟨s2, hs2, e2, _, hz2, hX2, hY2⟩ | ⟨hX2, hY2⟩
    · have is : vp_in (v1 + 1) 5 := by rw [e]; exact vp_in_nI hs (by decide)
      have cs : (v1 + 1).toNatClampNeg = s := by rw [e]; exact nI_clamp (by omega)
      have is2 : vp_in (v2 + 1) 5 := by rw [e2]; exact vp_in_nI hs2 (by decide)
      have cs2 : (v2 + 1).toNatClampNeg = s2 := by rw [e2]; exact nI_clamp (by omega)
      have Rs := (F.2.2.2.2.2.2.2.2.1 s hs hz).2
      have Rs2 := (F.2.2.2.2.2.2.2.2.1 s2 hs2 hz2).2
      have sr := hp_rS C hp_xz hs
      have sr2 := hp_rS C hp_xz hs2
      obtain ⟨r, pc', pA', pB', hr, hw⟩ := nq_wp (cp := nI cn) (sl := nI sn) (th := nI tn) (pd := pd) (pA := pA) (pB := pB) (ca := ca) (tk := tk) (so := so) (ro := ro) (se := se) (ki := ki) (ko := ko) (vo := vo) (ng := ng) (nc := nc) (st := st) (ep := ep) (rt := rt) (fc := fc) (bd := v3) T (hp_CN C) sr sr2 (rl_3 F hs).1 (rl_3 F hs2).1
      obtain ⟨r', hr', hw'⟩ := yd_wp (cp := nI cn) (sl := nI sn) (th := nI tn) (tk := tk) (ca := ca) (so := so) (ro := ro) (ki := ki) (ko := ko) (vo := vo) (ng := ng) (nd := nd) (se := se) (su := su) (ep := ep) hs hs2 Rs Rs2 e e2 (fun k => mp_v T sr) (fun k => mp_v T sr2) v3
      have er := nd_u hr hr'
      subst er
      refine hX _ (br_f (by decide) (hX2 _ (br_f (by decide) ⟨is, is2, ?_⟩)))
      dsimp only
      rw [cs, cs2]
      exact hw _ (hY _ (br_f (by decide) (hY2 _ (br_f (by decide) (hw' _ ⟨rfl, J pc' pA' pB'⟩)))))
    · exact hX _ (br_f (by decide) (hX2 _ (br_t rfl (hY _ (br_f (by decide) (hY2 _ (br_t rfl ⟨rfl, J pc pA pB⟩)))))))
  · exact hX _ (br_t rfl (hY _ (br_t rfl ⟨rfl, J pc pA pB⟩)))
end
section
/-! conflict, start, drop, the constructors -/
def iw_v (k : Int32) : Int32 := if k = 1 ∨ k = 2 ∨ k = 3 then 1 else 0
theorem iw_01 (k : Int32) : iw_v k = 0 ∨ iw_v k = 1 := by unfold iw_v; split; exact Or.inr rfl; exact Or.inl rfl
theorem iw_3 (k : Int32) : (¬ k < 1 ∧ ¬ 3 < k) ↔ (k = 1 ∨ k = 2 ∨ k = 3) := by
  constructor
  · rintro ⟨a, b⟩
    rw [Int32.lt_iff_toInt_lt] at a b
    have h1 : (1 : Int32).toInt = 1 := by decide
    have h2 : (2 : Int32).toInt = 2 := by decide
    have h3 : (3 : Int32).toInt = 3 := by decide
    have : k.toInt = 1 ∨ k.toInt = 2 ∨ k.toInt = 3 := by omega
    rcases this with h | h | h
    · exact Or.inl (Int32.toInt_inj.mp (h.trans h1.symm))
    · exact Or.inr (Or.inl (Int32.toInt_inj.mp (h.trans h2.symm)))
    · exact Or.inr (Or.inr (Int32.toInt_inj.mp (h.trans h3.symm)))
  · rintro (h | h | h)
    · rw [h]; decide
    · rw [h]; decide
    · rw [h]; decide
section
variable {cp sl th pc : Int32} {pd pA pB ca tk so ro se ki ko vo ng nc st nd su : Nat → Int32} {H : Nat → Nat → Nat} {rt ys yk yv : Nat → Nat} {fc ep t : Nat}
theorem iw_x {post : Int32 → Prop} (ht : t < 4) (hp : post (iw_v (ki t))) : wpX_isWrite post (cp, sl, th, (nI fc), pc, (lN ep), (fun i => nI (hp_m (H 0 i))), (fun i => nI (H 1 i)), (fun i => nI (H 2 i)), (fun i => nI (H 3 i)), (fun i => nI (H 4 i)), (fun i => nI (H 5 i)), (fun i => nI (H 6 i)), (fun i => lN (H 7 i)), (fun i => nI (H 8 i)), pd, pA, pB, (fun i => nI (rt i)), ca, tk, so, ro, se, ki, ko, vo, ng, nc, st) (nI t) := by
  have it : vp_in (nI t) 4 := vp_in_nI ht (by decide)
  unfold wpX_isWrite
  dsimp only
  rw [nI_clamp (by omega)]
  have h := iw_3 (ki t)
  unfold iw_v at hp
  refine ⟨it, br_c (fun a => ?_) (fun a => ⟨it, br_c (fun b => ?_) (fun b => ?_)⟩)⟩
  · rw [if_neg (fun z => (h.mpr z).1 a)] at hp; exact hp
  · rw [if_neg (fun z => (h.mpr z).2 b)] at hp; exact hp
  · rw [if_pos (h.mp ⟨a, b⟩)] at hp; exact hp
theorem iw_y {post : Int32 → Prop} (ht : t < 4) (hp : post (iw_v (ki t))) : wpY_isWrite post (cp, sl, th, (nI ep), tk, (fun i => nI (ys i)), ca, (fun i => nI (yk i)), (fun i => nI (yv i)), so, ro, ki, ko, vo, ng, nd, se, su) (nI t) := by
  have it : vp_in (nI t) 4 := vp_in_nI ht (by decide)
  unfold wpY_isWrite
  dsimp only
  rw [nI_clamp (by omega)]
  unfold iw_v at hp
  refine ⟨it, br_c (fun a => ?_) (fun a => ⟨it, br_c (fun b => ?_) (fun b => ⟨it, br_c (fun c => ?_) (fun c => ?_)⟩)⟩)⟩
  · rw [if_pos (Or.inl a)] at hp; exact hp
  · rw [if_pos (Or.inr (Or.inl b))] at hp; exact hp
  · rw [if_pos (Or.inr (Or.inr c))] at hp; exact hp
  · rw [if_neg (fun z => by rcases z with z | z | z; exact a z; exact b z; exact c z)] at hp; exact hp
theorem cf_82 (ht : t < 4) (hn : ki t = 4 → nc t = nd t) (x2 : Int32) : ∃ r, (∀ post : Int32 → Prop, post r → wX_conflict_82 post (nI t) x2 cp sl th (nI fc) pc (lN ep) (fun i => nI (hp_m (H 0 i))) (fun i => nI (H 1 i)) (fun i => nI (H 2 i)) (fun i => nI (H 3 i)) (fun i => nI (H 4 i)) (fun i => nI (H 5 i)) (fun i => nI (H 6 i)) (fun i => lN (H 7 i)) (fun i => nI (H 8 i)) pd pA pB (fun i => nI (rt i)) ca tk so ro se ki ko vo ng nc st) ∧ (∀ post : Int32 → Prop, post r → wY_conflict_82 post (nI t) x2 cp sl th (nI ep) tk (fun i => nI (ys i)) ca (fun i => nI (yk i)) (fun i => nI (yv i)) so ro ki ko vo ng nd se su) := by
  have it : vp_in (nI t) 4 := vp_in_nI ht (by decide)
  have ct : (nI t).toNatClampNeg = t := nI_clamp (by omega)
  unfold wX_conflict_82 wY_conflict_82
  rw [ct]
  by_cases a : ki t = 4
  · by_cases b : nc t = ca 0
    · have b' : nd t = ca 0 := by rw [← hn a]; exact b
      exact ⟨x2, fun post hp => ⟨it, br_t a ⟨it, br_t b hp⟩⟩, fun post hp => ⟨it, br_t a ⟨it, br_t b' hp⟩⟩⟩
    · have b' : ¬ nd t = ca 0 := by rw [← hn a]; exact b
      exact ⟨x2 + 4, fun post hp => ⟨it, br_t a ⟨it, br_f b (nm_e hp)⟩⟩, fun post hp => ⟨it, br_t a ⟨it, br_f b' (nm_e hp)⟩⟩⟩
  · exact ⟨x2, fun post hp => ⟨it, br_f a hp⟩, fun post hp => ⟨it, br_f a hp⟩⟩
theorem cf_65 (ht : t < 4) (hn : ki t = 4 → nc t = nd t) (x2 : Int32) : ∃ r, (∀ post : Int32 → Prop, post r → wX_conflict_65 post (nI t) x2 cp sl th (nI fc) pc (lN ep) (fun i => nI (hp_m (H 0 i))) (fun i => nI (H 1 i)) (fun i => nI (H 2 i)) (fun i => nI (H 3 i)) (fun i => nI (H 4 i)) (fun i => nI (H 5 i)) (fun i => nI (H 6 i)) (fun i => lN (H 7 i)) (fun i => nI (H 8 i)) pd pA pB (fun i => nI (rt i)) ca tk so ro se ki ko vo ng nc st) ∧ (∀ post : Int32 → Prop, post r → wY_conflict_65 post (nI t) x2 cp sl th (nI ep) tk (fun i => nI (ys i)) ca (fun i => nI (yk i)) (fun i => nI (yv i)) so ro ki ko vo ng nd se su) := by
  have it : vp_in (nI t) 4 := vp_in_nI ht (by decide)
  have ct : (nI t).toNatClampNeg = t := nI_clamp (by omega)
  by_cases a : ng t = nI ep
  · obtain ⟨r, hX, hY⟩ := cf_82 (cp := cp) (sl := sl) (th := th) (pc := pc) (pd := pd) (pA := pA) (pB := pB) (ca := ca) (tk := tk) (so := so) (ro := ro) (se := se) (ki := ki) (ko := ko) (vo := vo) (ng := ng) (nc := nc) (st := st) (nd := nd) (su := su) (H := H) (rt := rt) (ys := ys) (yk := yk) (yv := yv) (fc := fc) (ep := ep) ht hn x2
    refine ⟨r, fun post hp => ?_, fun post hp => ?_⟩
    · unfold wX_conflict_65
      rw [ct, lN_i]
      exact ⟨it, br_t a (hX post hp)⟩
    · unfold wY_conflict_65
      rw [ct]
      exact ⟨it, br_t a (hY post hp)⟩
  · obtain ⟨r, hX, hY⟩ := cf_82 (cp := cp) (sl := sl) (th := th) (pc := pc) (pd := pd) (pA := pA) (pB := pB) (ca := ca) (tk := tk) (so := so) (ro := ro) (se := se) (ki := ki) (ko := ko) (vo := vo) (ng := ng) (nc := nc) (st := st) (nd := nd) (su := su) (H := H) (rt := rt) (ys := ys) (yk := yk) (yv := yv) (fc := fc) (ep := ep) ht hn (x2 + 2)
    refine ⟨r, fun post hp => ?_, fun post hp => ?_⟩
    · unfold wX_conflict_65
      rw [ct, lN_i]
      exact ⟨it, br_f a (nm_e (hX post hp))⟩
    · unfold wY_conflict_65
      rw [ct]
      exact ⟨it, br_f a (nm_e (hY post hp))⟩
theorem cf_33 (ht : t < 4) (hn : ki t = 4 → nc t = nd t) (hs : so t = 2 → ki t ≠ 4 → st t = su t) : ∃ r, (∀ post : Int32 → Prop, post r → wX_conflict_33 post (nI t) cp sl th (nI fc) pc (lN ep) (fun i => nI (hp_m (H 0 i))) (fun i => nI (H 1 i)) (fun i => nI (H 2 i)) (fun i => nI (H 3 i)) (fun i => nI (H 4 i)) (fun i => nI (H 5 i)) (fun i => nI (H 6 i)) (fun i => lN (H 7 i)) (fun i => nI (H 8 i)) pd pA pB (fun i => nI (rt i)) ca tk so ro se ki ko vo ng nc st) ∧ (∀ post : Int32 → Prop, post r → wY_conflict_33 post (nI t) cp sl th (nI ep) tk (fun i => nI (ys i)) ca (fun i => nI (yk i)) (fun i => nI (yv i)) so ro ki ko vo ng nd se su) := by
  have it : vp_in (nI t) 4 := vp_in_nI ht (by decide)
  have ct : (nI t).toNatClampNeg = t := nI_clamp (by omega)
  have g := fun x2 => cf_65 (cp := cp) (sl := sl) (th := th) (pc := pc) (pd := pd) (pA := pA) (pB := pB) (ca := ca) (tk := tk) (so := so) (ro := ro) (se := se) (ki := ki) (ko := ko) (vo := vo) (ng := ng) (nc := nc) (st := st) (nd := nd) (su := su) (H := H) (rt := rt) (ys := ys) (yk := yk) (yv := yv) (fc := fc) (ep := ep) ht hn x2
  by_cases w : iw_v (ki t) = 0
  · obtain ⟨r, hX, hY⟩ := g 0
    refine ⟨r, fun post hp => ?_, fun post hp => ?_⟩
    · unfold wX_conflict_33
      exact iw_x ht (br_t w (hX post hp))
    · unfold wY_conflict_33 wY_conflict_64
      exact iw_y ht (br_t w (hY post hp))
  · by_cases a : so t = 2
    · have k4 : ki t ≠ 4 := by
        intro z
        rw [z] at w
        exact w rfl
      by_cases b : st t = 0
      · have b' : su t = 0 := by rw [← hs a k4]; exact b
        obtain ⟨r, hX, hY⟩ := g 0
        refine ⟨r, fun post hp => ?_, fun post hp => ?_⟩
        · unfold wX_conflict_33
          refine iw_x ht (br_f w ⟨it, ?_⟩)
          rw [ct]
          exact br_t a ⟨it, br_t b (hX post hp)⟩
        · unfold wY_conflict_33 wY_conflict_64
          refine iw_y ht (br_f w ⟨it, ?_⟩)
          rw [ct]
          exact br_t a ⟨it, br_t b' (hY post hp)⟩
      · have b' : ¬ su t = 0 := by rw [← hs a k4]; exact b
        obtain ⟨r, hX, hY⟩ := g 1
        refine ⟨r, fun post hp => ?_, fun post hp => ?_⟩
        · unfold wX_conflict_33
          refine iw_x ht (br_f w ⟨it, ?_⟩)
          rw [ct]
          exact br_t a ⟨it, br_f b (nm_r (e' := 1) rfl (hX post hp))⟩
        · unfold wY_conflict_33 wY_conflict_64
          refine iw_y ht (br_f w ⟨it, ?_⟩)
          rw [ct]
          exact br_t a ⟨it, br_f b' (hY post hp)⟩
    · obtain ⟨r, hX, hY⟩ := g 0
      refine ⟨r, fun post hp => ?_, fun post hp => ?_⟩
      · unfold wX_conflict_33
        refine iw_x ht (br_f w ⟨it, ?_⟩)
        rw [ct]
        exact br_f a (hX post hp)
      · unfold wY_conflict_33 wY_conflict_64
        refine iw_y ht (br_f w ⟨it, ?_⟩)
        rw [ct]
        exact br_f a (hY post hp)
end
theorem i_vc_conflict {k : Nat} {u : SX} {v : SY} (I : i_Rel k u v) (hk : k + 5 ≤ 2563) (v1 : Int32) : wpX_conflict (fun r => wpY_conflict (fun r' => r' = r ∧ i_Rel (k + 5) u v) v v1) u v1 := by
  refine rl_el (P := fun u v => wpX_conflict (fun r => wpY_conflict (fun r' => r' = r ∧ i_Rel (k + 5) u v) v v1) u v1) I ?_
  intro cn sn tn fc ep H rt pc pd pA pB ca tk so ro se ki ko vo ng nc st nd su ys yk yv F
  have J := i_up (k := k) (rl_in (pc := pc) (pd := pd) (pA := pA) (pB := pB) (ca := ca) (ro := ro) (se := se) (ng := ng) F)
  have t4 := F.2.2.1.2
  have f11 := F.2.2.2.2.2.2.2.2.2.2.1
  have f12 := F.2.2.2.2.2.2.2.2.2.2.2
  unfold wpX_conflict wpY_conflict
  rcases it_wp (pc := pc) (pd := pd) (pA := pA) (pB := pB) (ca := ca) (tk := tk) (so := so) (ro := ro) (se := se) (ki := ki) (ko := ko) (vo := vo) (ng := ng) (nc := nc) (st := st) (nd := nd) (su := su) (H := H) (rt := rt) (ys := ys) (yk := yk) (yv := yv) (cn := cn) (sn := sn) (fc := fc) (ep := ep) v1 t4 with ⟨t, ht, rfl, hX, hY⟩ | ⟨hX, hY⟩
  · have it : vp_in (nI t) 4 := vp_in_nI (by omega) (by decide)
    have ct : (nI t).toNatClampNeg = t := nI_clamp (by omega)
    by_cases a : so t = 2
    · obtain ⟨r, wX, wY⟩ := cf_33 (cp := nI cn) (sl := nI sn) (th := nI tn) (pc := pc) (pd := pd) (pA := pA) (pB := pB) (ca := ca) (tk := tk) (so := so) (ro := ro) (se := se) (ki := ki) (ko := ko) (vo := vo) (ng := ng) (nc := nc) (st := st) (nd := nd) (su := su) (H := H) (rt := rt) (ys := ys) (yk := yk) (yv := yv) (fc := fc) (ep := ep) (t := t) (by omega) (f12 t (by omega) (by rw [a]; decide) (by rw [a]; decide) (by rw [a]; decide)) (fun y => f11 t (by omega) (by rw [y]; decide) (by rw [y]; decide) (by rw [y]; decide) (by rw [y]; decide))
      have a' : so (nI t).toNatClampNeg = 2 := by rw [ct]; exact a
      exact hX _ (br_f (by decide) ⟨it, br_t a' (wX _ (hY _ (br_f (by decide) ⟨it, br_t a' (wY _ ⟨rfl, J⟩)⟩)))⟩)
    · have a' : ¬ so (nI t).toNatClampNeg = 2 := by rw [ct]; exact a
      by_cases b : so t = 3
      · obtain ⟨r, wX, wY⟩ := cf_33 (cp := nI cn) (sl := nI sn) (th := nI tn) (pc := pc) (pd := pd) (pA := pA) (pB := pB) (ca := ca) (tk := tk) (so := so) (ro := ro) (se := se) (ki := ki) (ko := ko) (vo := vo) (ng := ng) (nc := nc) (st := st) (nd := nd) (su := su) (H := H) (rt := rt) (ys := ys) (yk := yk) (yv := yv) (fc := fc) (ep := ep) (t := t) (by omega) (f12 t (by omega) (by rw [b]; decide) (by rw [b]; decide) (by rw [b]; decide)) (fun y => f11 t (by omega) (by rw [y]; decide) (by rw [y]; decide) (by rw [y]; decide) (by rw [y]; decide))
        have b' : so (nI t).toNatClampNeg = 3 := by rw [ct]; exact b
        exact hX _ (br_f (by decide) ⟨it, br_f a' ⟨it, br_t b' (wX _ (hY _ (br_f (by decide) ⟨it, br_f a' ⟨it, br_t b' (wY _ ⟨rfl, J⟩)⟩⟩)))⟩⟩)
      · have b' : ¬ so (nI t).toNatClampNeg = 3 := by rw [ct]; exact b
        exact hX _ (br_f (by decide) ⟨it, br_f a' ⟨it, br_f b' (hY _ (br_f (by decide) ⟨it, br_f a' ⟨it, br_f b' ⟨rfl, J⟩⟩⟩))⟩⟩)
  · exact hX _ (br_t rfl (hY _ (br_t rfl ⟨rfl, J⟩)))
section
variable {cn sn tn fc ep B : Nat} {H : Nat → Nat → Nat} {rt : Nat → Nat} {tk so ki ko vo nc nd st su : Nat → Int32} {ys yk yv : Nat → Nat}
theorem rl_st (F : rl_F cn sn tn fc ep H rt tk so ki ko vo nc nd st su ys yk yv B) {t a b : Nat} (kd : Int32) (ha : a < 65536) (hb : b < 2147483648) : rl_F cn sn tn fc ep H rt tk (upd so t 1) (upd ki t kd) (upd ko t (nI a)) (upd vo t (nI b)) nc nd st su ys yk yv B := by
  obtain ⟨f1, f2, f3, f4, f5, f6, f7, f8, f9, f10, f11, f12⟩ := F
  refine ⟨f1, f2, f3, f4, f5, f6, f7, f8, f9, fun q hq => ?_, fun q hq => ?_, fun q hq => ?_⟩
  · by_cases z : q = t
    · rw [z, pk_us, pk_us]; exact ⟨⟨a, ha, rfl⟩, ⟨b, hb, rfl⟩⟩
    · rw [pk_un z, pk_un z]; exact f10 q hq
  · by_cases z : q = t
    · rw [z, pk_us]; intro _ y; exact absurd rfl y
    · rw [pk_un z, pk_un z]; exact f11 q hq
  · by_cases z : q = t
    · rw [z, pk_us]; intro _ y; exact absurd rfl y
    · rw [pk_un z, pk_un z]; exact f12 q hq
end
theorem i_vc_start {k : Nat} {u : SX} {v : SY} (I : i_Rel k u v) (hk : k + 5 ≤ 2563) (v1 : Int32) (v2 : Int32) (v3 : Int32) (v4 : Int32) : wpX_start (fun r u' => wpY_start (fun r' v' => r' = r ∧ i_Rel (k + 5) u' v') v v1 v2 v3 v4) u v1 v2 v3 v4 := by
  refine rl_el (P := fun u v => wpX_start (fun r u' => wpY_start (fun r' v' => r' = r ∧ i_Rel (k + 5) u' v') v v1 v2 v3 v4) u v1 v2 v3 v4) I ?_
  intro cn sn tn fc ep H rt pc pd pA pB ca tk so ro se ki ko vo ng nc st nd su ys yk yv F
  have J := i_up (k := k) (rl_in (pc := pc) (pd := pd) (pA := pA) (pB := pB) (ca := ca) (ro := ro) (se := se) (ng := ng) F)
  have t4 := F.2.2.1.2
  unfold wpX_start wpY_start
  rcases it_wp (pc := pc) (pd := pd) (pA := pA) (pB := pB) (ca := ca) (tk := tk) (so := so) (ro := ro) (se := se) (ki := ki) (ko := ko) (vo := vo) (ng := ng) (nc := nc) (st := st) (nd := nd) (su := su) (H := H) (rt := rt) (ys := ys) (yk := yk) (yv := yv) (cn := cn) (sn := sn) (fc := fc) (ep := ep) v1 t4 with ⟨t, ht, rfl, hX, hY⟩ | ⟨hX, hY⟩
  · have it : vp_in (nI t) 4 := vp_in_nI (by omega) (by decide)
    have ct : (nI t).toNatClampNeg = t := nI_clamp (by omega)
    refine hX _ (br_f (by decide) ⟨it, ?_⟩)
    by_cases a : so (nI t).toNatClampNeg = 0
    · refine br_t a ?_
      by_cases b : v2 < 0
      · exact br_t b (hY _ (br_f (by decide) ⟨it, br_t a (br_t b ⟨rfl, J⟩)⟩))
      · refine br_f b ?_
        by_cases c : v2 ≤ 4
        · refine br_t c ?_
          -- the end
          have fin : ∀ (a' b' : Nat), a' < 65536 → b' < 2147483648 → i_Rel (k + 5) ((nI cn), (nI sn), (nI tn), (nI fc), pc, (lN ep), (fun i => nI (hp_m (H 0 i))), (fun i => nI (H 1 i)), (fun i => nI (H 2 i)), (fun i => nI (H 3 i)), (fun i => nI (H 4 i)), (fun i => nI (H 5 i)), (fun i => nI (H 6 i)), (fun i => lN (H 7 i)), (fun i => nI (H 8 i)), pd, pA, pB, (fun i => nI (rt i)), ca, tk, (upd so (nI t).toNatClampNeg 1), ro, se, (upd ki (nI t).toNatClampNeg v2), (upd ko (nI t).toNatClampNeg (nI a')), (upd vo (nI t).toNatClampNeg (nI b')), ng, nc, st) ((nI cn), (nI sn), (nI tn), (nI ep), tk, (fun i => nI (ys i)), ca, (fun i => nI (yk i)), (fun i => nI (yv i)), (upd so (nI t).toNatClampNeg 1), ro, (upd ki (nI t).toNatClampNeg v2), (upd ko (nI t).toNatClampNeg (nI a')), (upd vo (nI t).toNatClampNeg (nI b')), ng, nd, se, su) := by
            intro a' b' ha hb
            rw [ct]
            exact i_up (k := k) (rl_in (rl_st F v2 ha hb))
          have keyc : ¬ v3 < 0 → ¬ 65535 < v3 → ∃ a', a' < 65536 ∧ v3 = nI a' := by
            intro h1 h2
            obtain ⟨a', ha, rfl⟩ := nI_of h1
            refine ⟨a', ?_, rfl⟩
            have h3 : ¬ nI 65535 < nI a' := h2
            rw [nI_ltI (by omega) ha] at h3
            omega
          have kl : ¬ 65535 < v3 → v3 ≤ 65535 := fun h => Int32.not_lt.mp h
          have kg : 65535 < v3 → ¬ v3 ≤ 65535 := fun h h' => Int32.not_lt.mpr h' h
          by_cases k4 : v2 = 4
          · have n1 : ¬ v2 = 1 := by rw [k4]; decide
            have n2 : ¬ v2 = 2 := by rw [k4]; decide
            refine br_f n1 (br_f n2 ?_)
            unfold wX_start_44
            refine br_t k4 ?_
            unfold wX_start_61
            refine br_t rfl ?_
            unfold wX_start_74
            refine ⟨it, nm_e (br_t k4 ?_)⟩
            unfold wX_start_96
            refine ⟨it, nm_e (br_t rfl ?_)⟩
            unfold wX_start_113
            refine ⟨it, nm_e ⟨it, nm_e (hY _ (br_f (by decide) ⟨it, br_t a (br_f b (br_t c (br_t k4 ?_)))⟩))⟩⟩
            unfold wY_start_47
            refine br_f n1 (br_f n2 ?_)
            unfold wY_start_65
            refine ⟨it, nm_e (br_t k4 ?_)⟩
            unfold wY_start_87
            refine ⟨it, nm_e (br_f n1 (br_f n2 ?_))⟩
            unfold wY_start_109
            exact ⟨it, nm_e ⟨it, nm_e ⟨rfl, fin 0 0 (by decide) (by decide)⟩⟩⟩
          · by_cases bi : v2 = 1 ∨ v2 = 2
            · have ex : ∀ (A C : Prop), A → ((v2 = 1 → A) ∧ (¬ v2 = 1 → ((v2 = 2 → A) ∧ (¬ v2 = 2 → C)))) := by
                intro A C h
                by_cases n1 : v2 = 1
                · exact br_t n1 h
                · refine br_f n1 (br_t ?_ h)
                  rcases bi with z | z
                  · exact absurd z n1
                  · exact z
              refine ex _ _ ?_
              unfold wX_start_39 wX_start_44
              refine br_f k4 ?_
              by_cases d : v3 < 0
              · exact br_t d (hY _ (br_f (by decide) ⟨it, br_t a (br_f b (br_t c (br_f k4 (br_t d ⟨rfl, J⟩))))⟩))
              · refine br_f d ?_
                by_cases e : 65535 < v3
                · exact br_t e (hY _ (br_f (by decide) ⟨it, br_t a (br_f b (br_t c (br_f k4 (br_f d (br_f (kg e) ⟨rfl, J⟩)))))⟩))
                · refine br_f e ?_
                  obtain ⟨a', ha, ea⟩ := keyc d e
                  unfold wX_start_61
                  refine br_f (by decide) ?_
                  by_cases f : 0 ≤ v4
                  · obtain ⟨b', hb, eb⟩ := nI_of (x := v4) (Int32.not_lt.mpr f)
                    refine br_t f ?_
                    unfold wX_start_74
                    refine ⟨it, nm_e (br_f k4 ?_)⟩
                    unfold wX_start_96
                    refine ⟨it, nm_e (br_f (by decide) ?_)⟩
                    unfold wX_start_113
                    refine ⟨it, nm_e ⟨it, nm_e (hY _ (br_f (by decide) ⟨it, br_t a (br_f b (br_t c (br_f k4 (br_f d (br_t (kl e) ?_)))))⟩))⟩⟩
                    unfold wY_start_47
                    refine ex _ _ ?_
                    unfold wY_start_57
                    refine br_t f ?_
                    unfold wY_start_65
                    refine ⟨it, nm_e (br_f k4 ?_)⟩
                    unfold wY_start_87
                    refine ⟨it, nm_e (ex _ _ ?_)⟩
                    unfold wY_start_103 wY_start_109
                    rw [ea, eb]
                    exact ⟨it, nm_e ⟨it, nm_e ⟨rfl, fin a' b' ha (by omega)⟩⟩⟩
                  · refine br_f f (hY _ (br_f (by decide) ⟨it, br_t a (br_f b (br_t c (br_f k4 (br_f d (br_t (kl e) ?_)))))⟩))
                    unfold wY_start_47
                    refine ex _ _ ?_
                    unfold wY_start_57
                    exact br_f f ⟨rfl, J⟩
            · have n1 : ¬ v2 = 1 := fun z => bi (Or.inl z)
              have n2 : ¬ v2 = 2 := fun z => bi (Or.inr z)
              refine br_f n1 (br_f n2 ?_)
              unfold wX_start_44
              refine br_f k4 ?_
              by_cases d : v3 < 0
              · exact br_t d (hY _ (br_f (by decide) ⟨it, br_t a (br_f b (br_t c (br_f k4 (br_t d ⟨rfl, J⟩))))⟩))
              · refine br_f d ?_
                by_cases e : 65535 < v3
                · exact br_t e (hY _ (br_f (by decide) ⟨it, br_t a (br_f b (br_t c (br_f k4 (br_f d (br_f (kg e) ⟨rfl, J⟩)))))⟩))
                · refine br_f e ?_
                  obtain ⟨a', ha, ea⟩ := keyc d e
                  unfold wX_start_61
                  refine br_t rfl ?_
                  unfold wX_start_74
                  refine ⟨it, nm_e (br_f k4 ?_)⟩
                  unfold wX_start_96
                  refine ⟨it, nm_e (br_t rfl ?_)⟩
                  unfold wX_start_113
                  refine ⟨it, nm_e ⟨it, nm_e (hY _ (br_f (by decide) ⟨it, br_t a (br_f b (br_t c (br_f k4 (br_f d (br_t (kl e) ?_)))))⟩))⟩⟩
                  unfold wY_start_47
                  refine br_f n1 (br_f n2 ?_)
                  unfold wY_start_65
                  refine ⟨it, nm_e (br_f k4 ?_)⟩
                  unfold wY_start_87
                  refine ⟨it, nm_e (br_f n1 (br_f n2 ?_))⟩
                  unfold wY_start_109
                  rw [ea]
                  exact ⟨it, nm_e ⟨it, nm_e ⟨rfl, fin a' 0 ha (by decide)⟩⟩⟩
        · exact br_f c (hY _ (br_f (by decide) ⟨it, br_t a (br_f b (br_f c ⟨rfl, J⟩))⟩))
    · exact br_f a (hY _ (br_f (by decide) ⟨it, br_f a ⟨rfl, J⟩⟩))
  · exact hX _ (br_t rfl (hY _ (br_t rfl ⟨rfl, J⟩)))
end
section
/-! drop, and the constructors -/
section
variable {H H' : Nat → Nat → Nat} {rt : Nat → Nat} {fc fc' ep s : Nat}
theorem dr_n (hs : s < 5) (c : Nat) : hp_n H (un_u rt s 0) c + ib_b (rt s) c = hp_n H rt c + ib_b 0 c := by
  have h1 := sm_one (f := hp_r (un_u rt s 0) c) (g := hp_r rt c) hs (fun j hj hn => by
    unfold hp_r
    rw [un_n hn])
  have h2 : hp_r (un_u rt s 0) c s = ib_b 0 c := by unfold hp_r; rw [un_s]
  have h3 : hp_r rt c s = ib_b (rt s) c := rfl
  unfold hp_n
  omega
theorem dr_C (C : hp_C H rt fc hp_x 0) (hs : s < 5) : hp_C H (un_u rt s 0) fc (fun c => ib_b (rt s) c) 0 := by
  obtain ⟨c1, c2, c3, c4, c5⟩ := C
  refine ⟨c1, c2, fun c h0 hc => ?_, fun j hj => ?_, c5⟩
  · have h1 := dr_n (H := H) (rt := rt) hs c
    have h2 := c3 c h0 hc
    rw [ib_z (a := 0) (fun z => h0 z.symm)] at h1
    rw [hp_x0] at h2
    dsimp only
    omega
  · unfold un_u
    split
    · decide
    · exact c4 j hj
theorem dr_E (E : hp_E H rt ep) (hs : s < 5) (s0 : s ≠ 0) (q : hp_q H H') (mo : ∀ c, H' 6 c ≤ H 6 c) : hp_E H' (un_u rt s 0) ep := by
  refine ⟨fun c hc => ?_, fun j j0 j5 hj => ?_⟩
  · have hc1 : hp_u H c := ⟨hc.1, hc.2.1, fun z => hc.2.2 (by have := mo c; omega)⟩
    rw [q.2.2.2.2.2.2, q.2.2.2.2.1, q.2.2.2.2.2.1]
    refine ⟨(E.1 c hc1).1, (E.1 c hc1).2.1, fun h7 => ?_⟩
    have h1 := hp_nm (H := H) (H' := H') (rt := un_u rt s 0) (fun j _ z => by have := mo j; omega) q.2.2.2.2.1 q.2.2.2.2.2.1 c
    have h2 := dr_n (H := H) (rt := rt) hs c
    have h3 := (E.1 c hc1).2.2 h7
    rw [ib_z (a := 0) (fun z => hc.1 z.symm)] at h2
    omega
  · by_cases z : j = s
    · rw [z, un_s] at hj
      exact absurd rfl hj
    · rw [un_n z] at hj ⊢
      rw [q.2.2.2.2.2.2]
      exact E.2 j j0 j5 hj
end
theorem i_vc_drop {k : Nat} {u : SX} {v : SY} (I : i_Rel k u v) (hk : k + 5 ≤ 2563) (v1 : Int32) : wpX_drop (fun r u' => wpY_drop (fun r' v' => r' = r ∧ i_Rel (k + 5) u' v') v v1) u v1 := by
  refine rl_el (P := fun u v => wpX_drop (fun r u' => wpY_drop (fun r' v' => r' = r ∧ i_Rel (k + 5) u' v') v v1) u v1) I ?_
  intro cn sn tn fc ep H rt pc pd pA pB ca tk so ro se ki ko vo ng nc st nd su ys yk yv F
  have J := i_up (k := k) (rl_in (pc := pc) (pd := pd) (pA := pA) (pB := pB) (ca := ca) (ro := ro) (se := se) (ng := ng) F)
  have t4 := F.2.1.2
  unfold wpX_drop wpY_drop
  by_cases a : v1 < 0
  · exact br_t a (br_t a ⟨rfl, J⟩)
  · refine br_f a ?_
    rcases iv_wp (tn := tn) (pc := pc) (pd := pd) (pA := pA) (pB := pB) (ca := ca) (tk := tk) (so := so) (ro := ro) (se := se) (ki := ki) (ko := ko) (vo := vo) (ng := ng) (nc := nc) (st := st) (nd := nd) (su := su) (H := H) (rt := rt) (ys := ys) (yk := yk) (yv := yv) (cn := cn) (fc := fc) (ep := ep) v1 t4 with ⟨s, hs, e, ks, hz, hX, hY⟩ | ⟨hX, hY⟩
    · have is : vp_in (v1 + 1) 5 := by rw [e]; exact vp_in_nI hs (by decide)
      have cs : (v1 + 1).toNatClampNeg = s := by rw [e]; exact nI_clamp (by omega)
      have s0 : s ≠ 0 := by
        rcases ks with ⟨_, z⟩ | ⟨j, z, _⟩
        · rw [z] at a
          exact absurd (by decide) a
        · omega
      have F0 := F
      obtain ⟨f1, f2, f3, C, E, f6, f7, f8, f9, f10, f11, f12⟩ := F
      have C1 := dr_C C hs
      obtain ⟨H', fc', pd', C', q, mo, nq, fl, hw⟩ := re_wp (cp := nI cn) (sl := nI sn) (th := nI tn) (pc := pc) (pd := pd) (pA := pA) (pB := pB) (ca := ca) (tk := upd tk s 0) (so := so) (ro := ro) (se := se) (ki := ki) (ko := ko) (vo := vo) (ng := ng) (nc := nc) (st := st) (ep := ep) (Q := fun _ => True) C1 (C.2.2.2.1 s hs) (fun c hc _ => ⟨hc.1, fun _ => trivial, fun _ => trivial⟩) (fun _ => trivial) (by have := (rl_3 F0 hs).1; omega)
      have F' : rl_F cn sn tn fc' ep H' (un_u rt s 0) (upd tk s 0) so ki ko vo nc nd st su ys yk yv (8 * k) := by
        refine ⟨f1, f2, f3, C', dr_E E hs s0 q mo, f6, ?_, fun j hj => ?_, fun j hj => ?_, f10, f11, f12⟩
        · rw [pk_un (fun z => s0 z.symm)]; exact f7
        · by_cases z : j = s
          · rw [z, un_s]; exact fun _ => rfl
          · rw [pk_un z, un_n z]; exact f8 j hj
        · by_cases z : j = s
          · rw [z, pk_us]; exact fun y => absurd rfl y
          · rw [pk_un z, un_n z, (hp_qm q _).2]; exact f9 j hj
      have J' := i_up (k := k) (rl_in (pc := pc) (pd := pd') (pA := pA) (pB := pB) (ca := ca) (ro := ro) (se := se) (ng := ng) F')
      refine hX _ (br_f (by decide) ⟨is, nm_r (e' := nI (rt s)) (by dsimp only; rw [cs]) ⟨is, nm_r (e' := upd tk s 0) (by rw [cs]; rfl) ⟨is, nm_r (e' := fun i => nI (un_u rt s 0 i)) (by rw [cs]; exact un_I rt s 0) (hw _ ?_)⟩⟩⟩)
      exact br_f a (hY _ (br_f (by decide) ⟨is, nm_r (e' := upd tk s 0) (by rw [cs]; rfl) ⟨rfl, J'⟩⟩))
    · exact hX _ (br_t rfl (br_f a (hY _ (br_t rfl ⟨rfl, J⟩))))
theorem cl_wp (p : Int32) (lo hi : Nat) (h : lo ≤ hi) (h31 : hi < 2 ^ 31) : ∃ n, lo ≤ n ∧ n ≤ hi ∧ ∀ A : Int32 → Prop, A (nI n) → ((nI lo ≤ p → ((p ≤ nI hi → A p) ∧ (¬ p ≤ nI hi → A (nI hi)))) ∧ (¬ nI lo ≤ p → A (nI lo))) := by
  by_cases a : nI lo ≤ p
  · by_cases b : p ≤ nI hi
    · have c : ¬ p < 0 := by
        rw [Int32.le_iff_toInt_le, nI_toInt (by omega)] at a
        rw [Int32.lt_iff_toInt_lt]
        have : (0 : Int32).toInt = 0 := by decide
        omega
      obtain ⟨n, hn, rfl⟩ := nI_of c
      refine ⟨n, ?_, ?_, fun A hA => br_t a (br_t b hA)⟩
      · exact (nI_leI (by omega) hn).mp a
      · exact (nI_leI hn h31).mp b
    · exact ⟨hi, h, by omega, fun A hA => br_t a (br_f b hA)⟩
  · exact ⟨lo, by omega, h, fun A hA => br_f a hA⟩
/-- the free list while it is filled -/
def fr_f (i : Nat) : Nat → Nat := fun j => if j < i then 255 - j else 0
theorem fr_s (i : Nat) : upd (fun j => nI (fr_f i j)) i (nI (255 - i)) = fun j => nI (fr_f (i + 1) j) := by
  funext j
  unfold upd fr_f
  by_cases z : j = i
  · rw [if_pos z, z, if_pos (by omega)]
  · rw [if_neg z]
    show nI (if j < i then 255 - j else 0) = _
    by_cases y : j < i
    · rw [if_pos y, if_pos (by omega)]
    · rw [if_neg y, if_neg (by omega)]
section
variable {cp sl th pc : Int32} {pd pA pB ca tk so ro se ki ko vo ng nc st : Nat → Int32} {H : Nat → Nat → Nat} {rt : Nat → Nat} {ep : Nat}
theorem in_x : ∀ m i, m + i = 255 → ∀ post : SX → Prop, (∃ n275 : Nat, wX_init_275 post cp sl th (nI 255) pc (lN ep) n275 0 (fun i => nI (hp_m (H 0 i))) (fun i => nI (H 1 i)) (fun i => nI (H 2 i)) (fun i => nI (H 3 i)) (fun i => nI (H 4 i)) (fun i => nI (H 5 i)) (fun i => nI (H 6 i)) (fun i => lN (H 7 i)) (fun j => nI (fr_f 255 j)) pd pA pB (fun i => nI (rt i)) ca tk so ro se ki ko vo ng nc st) → ∀ n, m < n → wX_init_240 post cp sl th pc (lN ep) n (nI m) (nI i) (fun i => nI (hp_m (H 0 i))) (fun i => nI (H 1 i)) (fun i => nI (H 2 i)) (fun i => nI (H 3 i)) (fun i => nI (H 4 i)) (fun i => nI (H 5 i)) (fun i => nI (H 6 i)) (fun i => lN (H 7 i)) (fun j => nI (fr_f i j)) pd pA pB (fun i => nI (rt i)) ca tk so ro se ki ko vo ng nc st := by
  intro m
  induction m with
  | zero =>
    intro i hi post hp n hn
    obtain ⟨n, rfl⟩ : ∃ n', n = n' + 1 := ⟨n - 1, by omega⟩
    have e : i = 255 := by omega
    subst e
    exact br_t (nI_le (a := 0) (b := 0) (by omega) (by decide)) hp
  | succ m ih =>
    intro i hi post hp n hn
    obtain ⟨n, rfl⟩ : ∃ n', n = n' + 1 := ⟨n - 1, by omega⟩
    refine br_f (nI_nle (by omega) (by omega)) ⟨vp_in_nI (by omega) (by decide), nm_r (e' := fun j => nI (fr_f (i + 1) j)) ?_ (nm_r (nI_1 i) (nm_r (pk_m1 m) (ih (i + 1) (by omega) post hp n (by omega))))⟩
    rw [nI_clamp (by omega), ← fr_s i]
    have e2 : m + 1 = 255 - i := by omega
    rw [e2]
end
theorem in_C (z : Nat → Nat) (hz : ∀ c, z c = 0) : hp_C (hp_p z z z z z z z z (fr_f 255)) z 255 hp_x 0 ∧ hp_E (hp_p z z z z z z z z (fr_f 255)) z 0 := by
  have nu : ∀ c, ¬ hp_u (hp_p z z z z z z z z (fr_f 255)) c := fun c h => h.2.2 (hz c)
  have n0 : ∀ c, c ≠ 0 → hp_n (hp_p z z z z z z z z (fr_f 255)) z c = 0 := by
    intro c h0
    unfold hp_n
    rw [sm_z (f := hp_k (hp_p z z z z z z z z (fr_f 255)) c) (fun i _ => hp_kz (Or.inr (hz i))), sm_z (f := hp_r z c) (fun i _ => by unfold hp_r; rw [hz]; exact ib_z (fun y => h0 y.symm))]
  refine ⟨⟨⟨hz 0, hz 0, hz 0, hz 0, hz 0⟩, fun c h => absurd h (nu c), fun c h0 hc => ?_, fun s _ => by rw [hz]; decide, fun i hi => ?_, fun i j hij hj => ?_, ?_⟩, ⟨fun c h => absurd h (nu c), fun s _ _ h => absurd (hz s) h⟩⟩
  · rw [n0 c h0, hp_x0]
    show ((z c : Nat) : Int) = _
    rw [hz]
    rfl
  · show fr_f 255 i ≠ 0 ∧ fr_f 255 i < 256 ∧ z (fr_f 255 i) = 0
    unfold fr_f
    rw [if_pos hi]
    exact ⟨by omega, by omega, hz _⟩
  · show fr_f 255 i ≠ fr_f 255 j
    unfold fr_f
    rw [if_pos (by omega), if_pos hj]
    omega
  · rw [sm_z (f := hp_g (hp_p z z z z z z z z (fr_f 255))) (fun i _ => if_pos (Or.inr (hz i)))]
theorem i_vc0 (k0 : Int32) (k1 : Int32) (k2 : Int32) : wpX_init (fun u => wpY_init (fun v => i_Rel 3 u v) k0 k1 k2) k0 k1 k2 := by
  obtain ⟨cn, c1, c2, hc⟩ := cl_wp k0 2 24 (by decide) (by decide)
  obtain ⟨sn, s1, s2, hs⟩ := cl_wp k1 1 4 (by decide) (by decide)
  obtain ⟨tn, t1, t2, ht⟩ := cl_wp k2 1 4 (by decide) (by decide)
  have iv : ∀ j : Nat, j < 4 → vp_in (nI j) 4 := fun j hj => vp_in_nI hj (by decide)
  let z : Nat → Nat := fun _ => 0
  let H0 := hp_p z z z z z z z z (fr_f 255)
  let ro0 := upd (upd (upd (upd (fun _ => 0) 0 (-4)) 1 (-4)) 2 (-4)) 3 (-4)
  let tk0 : Nat → Int32 := upd (fun _ => 0) 0 1
  have F : rl_F cn sn tn 255 0 H0 z tk0 (fun _ => 0) (fun _ => 0) (fun _ => 0) (fun _ => 0) (fun _ => 0) (fun _ => 0) (fun _ => 0) (fun _ => 0) z z z (8 * 3) := by
    obtain ⟨C, E⟩ := in_C z (fun _ => rfl)
    have T := hp_CT C hp_xz
    refine ⟨⟨c1, c2⟩, ⟨s1, s2⟩, ⟨t1, t2⟩, C, E, by decide, by decide, fun _ _ _ => rfl, fun s hs hz => ⟨Nat.zero_le _, Nat.zero_le _, fun i hi => absurd hi (Nat.not_lt_zero _), fun k hk => absurd (mp_0 T k) hk, fun i j hi => absurd hi (Nat.not_lt_zero _)⟩, fun t _ => ⟨⟨0, by decide, rfl⟩, ⟨0, by decide, rfl⟩⟩, fun t _ _ _ _ _ _ => rfl, fun t _ _ _ _ _ => rfl⟩
  have J : i_Rel 3 ((nI cn), (nI sn), (nI tn), (nI 255), 0, (lN 0), (fun i => nI (hp_m (H0 0 i))), (fun i => nI (H0 1 i)), (fun i => nI (H0 2 i)), (fun i => nI (H0 3 i)), (fun i => nI (H0 4 i)), (fun i => nI (H0 5 i)), (fun i => nI (H0 6 i)), (fun i => lN (H0 7 i)), (fun i => nI (H0 8 i)), (fun _ => 0), (fun _ => 0), (fun _ => 0), (fun i => nI (z i)), (fun _ => 0), tk0, (fun _ => 0), ro0, (fun _ => 0), (fun _ => 0), (fun _ => 0), (fun _ => 0), (fun _ => 0), (fun _ => 0), (fun _ => 0)) ((nI cn), (nI sn), (nI tn), (nI 0), tk0, (fun i => nI (z i)), (fun _ => 0), (fun i => nI (z i)), (fun i => nI (z i)), (fun _ => 0), ro0, (fun _ => 0), (fun _ => 0), (fun _ => 0), (fun _ => 0), (fun _ => 0), (fun _ => 0), (fun _ => 0)) := rl_in F
  have yw : ∀ P : SY → Prop, P ((nI cn), (nI sn), (nI tn), (nI 0), tk0, (fun i => nI (z i)), (fun _ => 0), (fun i => nI (z i)), (fun i => nI (z i)), (fun _ => 0), ro0, (fun _ => 0), (fun _ => 0), (fun _ => 0), (fun _ => 0), (fun _ => 0), (fun _ => 0), (fun _ => 0)) → wpY_init P k0 k1 k2 := by
    intro P hP
    unfold wpY_init
    refine hc (fun x => wY_init_126 P k1 k2 x 0 0 0 0 (fun _ => 0) (fun _ => 0) (fun _ => 0) (fun _ => 0) (fun _ => 0) (fun _ => 0) (fun _ => 0) (fun _ => 0) (fun _ => 0) (fun _ => 0) (fun _ => 0) (fun _ => 0) (fun _ => 0) (fun _ => 0)) ?_
    unfold wY_init_126
    refine hs (fun x => wY_init_149 P k2 x (nI cn) 0 0 0 (fun _ => 0) (fun _ => 0) (fun _ => 0) (fun _ => 0) (fun _ => 0) (fun _ => 0) (fun _ => 0) (fun _ => 0) (fun _ => 0) (fun _ => 0) (fun _ => 0) (fun _ => 0) (fun _ => 0) (fun _ => 0)) ?_
    unfold wY_init_149
    refine ht (fun x => wY_init_172 P x (nI cn) (nI sn) 0 0 (fun _ => 0) (fun _ => 0) (fun _ => 0) (fun _ => 0) (fun _ => 0) (fun _ => 0) (fun _ => 0) (fun _ => 0) (fun _ => 0) (fun _ => 0) (fun _ => 0) (fun _ => 0) (fun _ => 0) (fun _ => 0)) ?_
    unfold wY_init_172
    refine nm_r (e' := tk0) rfl ⟨5, br_f (by decide) ⟨iv 0 (by decide), nm_e (nm_e (br_f (by decide) ⟨iv 1 (by decide), nm_e (nm_e (br_f (by decide) ⟨iv 2 (by decide), nm_e (nm_e (br_f (by decide) ⟨iv 3 (by decide), nm_e (nm_e (br_t (by decide) hP))⟩))⟩))⟩))⟩⟩
  have xcn : ∀ (post : Int32 → Prop) (u : SX), post (nI cn) → wpX_clamp post u k0 2 24 := by
    intro post u hp
    obtain ⟨f0, f1, f2, f3, f4, f5, b0, b1, b2, b3, b4, b5, b6, b7, b8, b9, b10, b11, b12, b13, b14, b15, b16, b17, b18, b19, b20, b21, b22, b23⟩ := u
    exact hc post hp
  have xsn : ∀ (post : Int32 → Prop) (u : SX), post (nI sn) → wpX_clamp post u k1 1 4 := by
    intro post u hp
    obtain ⟨f0, f1, f2, f3, f4, f5, b0, b1, b2, b3, b4, b5, b6, b7, b8, b9, b10, b11, b12, b13, b14, b15, b16, b17, b18, b19, b20, b21, b22, b23⟩ := u
    exact hs post hp
  have xtn : ∀ (post : Int32 → Prop) (u : SX), post (nI tn) → wpX_clamp post u k2 1 4 := by
    intro post u hp
    obtain ⟨f0, f1, f2, f3, f4, f5, b0, b1, b2, b3, b4, b5, b6, b7, b8, b9, b10, b11, b12, b13, b14, b15, b16, b17, b18, b19, b20, b21, b22, b23⟩ := u
    exact ht post hp
  unfold wpX_init
  refine xcn _ _ (xsn _ _ (xtn _ _ ?_))
  refine nm_r (e' := tk0) rfl ⟨256, ?_⟩
  refine in_x (H := H0) (rt := z) (ep := 0) 255 0 (by omega) _ ⟨5, ?_⟩ 256 (by omega)
  exact br_f (by decide) ⟨iv 0 (by decide), nm_e (nm_e (br_f (by decide) ⟨iv 1 (by decide), nm_e (nm_e (br_f (by decide) ⟨iv 2 (by decide), nm_e (nm_e (br_f (by decide) ⟨iv 3 (by decide), nm_e (nm_e (br_t (by decide) (yw _ J)))⟩))⟩))⟩))⟩
end
section
/-! threads in lockstep: settle, the posted ones, stale marks -/
/-- one outcome for both sides -/
def oc_O (WX : (SX → Prop) → Prop) (WY : (SY → Prop) → Prop) (cn sn tn : Nat) (pc : Int32) (pA pB ki ko vo : Nat → Int32) (B : Nat) : Prop :=
  ∃ (fc ep : Nat) (H : Nat → Nat → Nat) (rt : Nat → Nat) (pd ca tk so ro se ng nc st nd su : Nat → Int32) (ys yk yv : Nat → Nat),
    rl_F cn sn tn fc ep H rt tk so ki ko vo nc nd st su ys yk yv B ∧ (∀ post : SX → Prop, post ((nI cn), (nI sn), (nI tn), (nI fc), pc, (lN ep), (fun i => nI (hp_m (H 0 i))), (fun i => nI (H 1 i)), (fun i => nI (H 2 i)), (fun i => nI (H 3 i)), (fun i => nI (H 4 i)), (fun i => nI (H 5 i)), (fun i => nI (H 6 i)), (fun i => lN (H 7 i)), (fun i => nI (H 8 i)), pd, pA, pB, (fun i => nI (rt i)), ca, tk, so, ro, se, ki, ko, vo, ng, nc, st) → WX post) ∧ (∀ post : SY → Prop, post ((nI cn), (nI sn), (nI tn), (nI ep), tk, (fun i => nI (ys i)), ca, (fun i => nI (yk i)), (fun i => nI (yv i)), so, ro, ki, ko, vo, ng, nd, se, su) → WY post)
theorem oc_t {WX WX' : (SX → Prop) → Prop} {WY WY' : (SY → Prop) → Prop} {cn sn tn : Nat} {pc : Int32} {pA pB ki ko vo : Nat → Int32} {B : Nat} (h : oc_O WX WY cn sn tn pc pA pB ki ko vo B)
    (hX : ∀ post : SX → Prop, WX (fun u => match u with | (f0, f1, f2, f3, f4, f5, b0, b1, b2, b3, b4, b5, b6, b7, b8, b9, b10, b11, b12, b13, b14, b15, b16, b17, b18, b19, b20, b21, b22, b23) => post (f0, f1, f2, f3, f4, f5, b0, b1, b2, b3, b4, b5, b6, b7, b8, b9, b10, b11, b12, b13, b14, b15, b16, b17, b18, b19, b20, b21, b22, b23)) → WX' post) (hY : ∀ post : SY → Prop, WY (fun u => match u with | (f0, f1, f2, f3, b0, b1, b2, b3, b4, b5, b6, b7, b8, b9, b10, b11, b12, b13) => post (f0, f1, f2, f3, b0, b1, b2, b3, b4, b5, b6, b7, b8, b9, b10, b11, b12, b13)) → WY' post) : oc_O WX' WY' cn sn tn pc pA pB ki ko vo B := by
  obtain ⟨fc, ep, H, rt, pd, ca, tk, so, ro, se, ng, nc, st, nd, su, ys, yk, yv, F, wX, wY⟩ := h
  exact ⟨fc, ep, H, rt, pd, ca, tk, so, ro, se, ng, nc, st, nd, su, ys, yk, yv, F, fun post hp => hX post (wX _ hp), fun post hp => hY post (wY _ hp)⟩
theorem oc_u {WX WX' : (SX → Prop) → Prop} {WY WY' : (SY → Prop) → Prop} {cn sn tn : Nat} {pc : Int32} {pA pB ki ko vo : Nat → Int32} {B : Nat} (h : oc_O WX WY cn sn tn pc pA pB ki ko vo B)
    (hX : ∀ post : SX → Prop, WX post → WX' post) (hY : ∀ post : SY → Prop, WY post → WY' post) : oc_O WX' WY' cn sn tn pc pA pB ki ko vo B := by
  obtain ⟨fc, ep, H, rt, pd, ca, tk, so, ro, se, ng, nc, st, nd, su, ys, yk, yv, F, wX, wY⟩ := h
  exact ⟨fc, ep, H, rt, pd, ca, tk, so, ro, se, ng, nc, st, nd, su, ys, yk, yv, F, fun post hp => hX post (wX _ hp), fun post hp => hY post (wY _ hp)⟩
theorem oc_b {WX : (SX → Prop) → Prop} {WY : (SY → Prop) → Prop} {cn sn tn : Nat} {pc : Int32} {pA pB ki ko vo : Nat → Int32} {B : Nat} (h : oc_O WX WY cn sn tn pc pA pB ki ko vo B) : oc_O WX WY cn sn tn pc pA pB ki ko vo (B + 1) := by
  obtain ⟨fc, ep, H, rt, pd, ca, tk, so, ro, se, ng, nc, st, nd, su, ys, yk, yv, F, wX, wY⟩ := h
  obtain ⟨f1, f2, f3, f4, f5, f6, f7⟩ := F
  exact ⟨fc, ep, H, rt, pd, ca, tk, so, ro, se, ng, nc, st, nd, su, ys, yk, yv, ⟨f1, f2, f3, f4, f5, by omega, f7⟩, wX, wY⟩
section
variable {cn sn tn fc ep B : Nat} {H : Nat → Nat → Nat} {rt : Nat → Nat} {pc : Int32} {pd pA pB ca tk so ro se ki ko vo ng nc st nd su : Nat → Int32} {ys yk yv : Nat → Nat}
theorem rl_so (F : rl_F cn sn tn fc ep H rt tk so ki ko vo nc nd st su ys yk yv B) (u : Nat) {x : Int32} (hx : x = 0 ∨ x = 1 ∨ x = 4) : rl_F cn sn tn fc ep H rt tk (upd so u x) ki ko vo nc nd st su ys yk yv B := by
  obtain ⟨f1, f2, f3, f4, f5, f6, f7, f8, f9, f10, f11, f12⟩ := F
  refine ⟨f1, f2, f3, f4, f5, f6, f7, f8, f9, f10, fun q hq => ?_, fun q hq => ?_⟩
  · by_cases z : q = u
    · rw [z, pk_us]
      intro y0 y1 _ y4
      rcases hx with h | h | h
      · exact absurd h y0
      · exact absurd h y1
      · exact absurd h y4
    · rw [pk_un z]; exact f11 q hq
  · by_cases z : q = u
    · rw [z, pk_us]
      intro y0 y1 y4
      rcases hx with h | h | h
      · exact absurd h y0
      · exact absurd h y1
      · exact absurd h y4
    · rw [pk_un z]; exact f12 q hq
theorem se_wp (F : rl_F cn sn tn fc ep H rt tk so ki ko vo nc nd st su ys yk yv B) {u : Nat} (hu : u < 4) (r t : Int32) :
    oc_O (fun post => wpX_settle post ((nI cn), (nI sn), (nI tn), (nI fc), pc, (lN ep), (fun i => nI (hp_m (H 0 i))), (fun i => nI (H 1 i)), (fun i => nI (H 2 i)), (fun i => nI (H 3 i)), (fun i => nI (H 4 i)), (fun i => nI (H 5 i)), (fun i => nI (H 6 i)), (fun i => lN (H 7 i)), (fun i => nI (H 8 i)), pd, pA, pB, (fun i => nI (rt i)), ca, tk, so, ro, se, ki, ko, vo, ng, nc, st) (nI u) r t) (fun post => wpY_settle post ((nI cn), (nI sn), (nI tn), (nI ep), tk, (fun i => nI (ys i)), ca, (fun i => nI (yk i)), (fun i => nI (yv i)), so, ro, ki, ko, vo, ng, nd, se, su) (nI u) r t) cn sn tn pc pA pB ki ko vo B := by
  have iu : vp_in (nI u) 4 := vp_in_nI hu (by decide)
  have cu : (nI u).toNatClampNeg = u := nI_clamp (by omega)
  by_cases a : nI u = t
  · refine ⟨fc, ep, H, rt, pd, ca, tk, upd so u 0, upd ro u r, se, ng, nc, st, nd, su, ys, yk, yv, rl_so F u (by decide), fun post hp => ?_, fun post hp => ?_⟩
    · unfold wpX_settle
      dsimp only
      rw [cu]
      exact br_t a ⟨iu, nm_e ⟨iu, nm_e hp⟩⟩
    · unfold wpY_settle wY_settle_15
      dsimp only
      rw [cu]
      exact br_t a ⟨iu, nm_e (br_t a ⟨iu, nm_e hp⟩)⟩
  · refine ⟨fc, ep, H, rt, pd, ca, tk, upd so u 4, ro, upd se u r, ng, nc, st, nd, su, ys, yk, yv, rl_so F u (by decide), fun post hp => ?_, fun post hp => ?_⟩
    · unfold wpX_settle
      dsimp only
      rw [cu]
      exact br_f a ⟨iu, nm_e ⟨iu, nm_e hp⟩⟩
    · unfold wpY_settle wY_settle_15
      dsimp only
      rw [cu]
      exact br_f a ⟨iu, nm_e (br_f a ⟨iu, nm_e hp⟩)⟩
theorem ps_l (h4 : tn ≤ 4) : ∀ m i, m + i = tn → ∃ r, (r = -1 ∨ ∃ w, w < tn ∧ r = nI w ∧ so w = 3 ∧ ki w = 4) ∧ (∀ post : Int32 → Prop, post r → ∀ n, m < n → wX_postedSnap_2 post (nI cn) (nI sn) (nI tn) (nI fc) pc (lN ep) (fun i => nI (hp_m (H 0 i))) (fun i => nI (H 1 i)) (fun i => nI (H 2 i)) (fun i => nI (H 3 i)) (fun i => nI (H 4 i)) (fun i => nI (H 5 i)) (fun i => nI (H 6 i)) (fun i => lN (H 7 i)) (fun i => nI (H 8 i)) pd pA pB (fun i => nI (rt i)) ca tk so ro se ki ko vo ng nc st n (nI i)) ∧ (∀ post : Int32 → Prop, post r → ∀ n, m < n → wY_postedSnap_2 post (nI cn) (nI sn) (nI tn) (nI ep) tk (fun i => nI (ys i)) ca (fun i => nI (yk i)) (fun i => nI (yv i)) so ro ki ko vo ng nd se su n (nI i)) := by
  intro m
  induction m with
  | zero =>
    intro i hi
    have le : nI tn ≤ nI i := nI_le (by omega) (by omega)
    refine ⟨-1, Or.inl rfl, fun post hp n hn => ?_, fun post hp n hn => ?_⟩
    · obtain ⟨n, rfl⟩ : ∃ n', n = n' + 1 := ⟨n - 1, by omega⟩
      exact br_t le hp
    · obtain ⟨n, rfl⟩ : ∃ n', n = n' + 1 := ⟨n - 1, by omega⟩
      exact br_t le hp
  | succ m ih =>
    intro i hi
    have gt : ¬ nI tn ≤ nI i := nI_ge (by omega) (by omega)
    have ii : vp_in (nI i) 4 := vp_in_nI (by omega) (by decide)
    have ci : (nI i).toNatClampNeg = i := nI_clamp (by omega)
    obtain ⟨r, hr, hX, hY⟩ := ih (i + 1) (by omega)
    by_cases a : so i = 3
    · have a' : so (nI i).toNatClampNeg = 3 := by rw [ci]; exact a
      by_cases b : ki i = 4
      · have b' : ki (nI i).toNatClampNeg = 4 := by rw [ci]; exact b
        refine ⟨nI i, Or.inr ⟨i, by omega, rfl, a, b⟩, fun post hp n hn => ?_, fun post hp n hn => ?_⟩
        · obtain ⟨n, rfl⟩ : ∃ n', n = n' + 1 := ⟨n - 1, by omega⟩
          exact br_f gt ⟨ii, br_t a' ⟨ii, br_t b' hp⟩⟩
        · obtain ⟨n, rfl⟩ : ∃ n', n = n' + 1 := ⟨n - 1, by omega⟩
          exact br_f gt ⟨ii, br_t a' ⟨ii, br_t b' hp⟩⟩
      · have b' : ¬ ki (nI i).toNatClampNeg = 4 := by rw [ci]; exact b
        refine ⟨r, hr, fun post hp n hn => ?_, fun post hp n hn => ?_⟩
        · obtain ⟨n, rfl⟩ : ∃ n', n = n' + 1 := ⟨n - 1, by omega⟩
          exact br_f gt ⟨ii, br_t a' ⟨ii, br_f b' (nm_r (nI_1 i) (hX post hp n (by omega)))⟩⟩
        · obtain ⟨n, rfl⟩ : ∃ n', n = n' + 1 := ⟨n - 1, by omega⟩
          exact br_f gt ⟨ii, br_t a' ⟨ii, br_f b' (nm_r (nI_1 i) (hY post hp n (by omega)))⟩⟩
    · have a' : ¬ so (nI i).toNatClampNeg = 3 := by rw [ci]; exact a
      refine ⟨r, hr, fun post hp n hn => ?_, fun post hp n hn => ?_⟩
      · obtain ⟨n, rfl⟩ : ∃ n', n = n' + 1 := ⟨n - 1, by omega⟩
        exact br_f gt ⟨ii, br_f a' (nm_r (nI_1 i) (hX post hp n (by omega)))⟩
      · obtain ⟨n, rfl⟩ : ∃ n', n = n' + 1 := ⟨n - 1, by omega⟩
        exact br_f gt ⟨ii, br_f a' (nm_r (nI_1 i) (hY post hp n (by omega)))⟩
theorem ps_wp (h4 : tn ≤ 4) : ∃ r, (r = -1 ∨ ∃ w, w < tn ∧ r = nI w ∧ so w = 3 ∧ ki w = 4) ∧ (∀ post : Int32 → Prop, post r → wpX_postedSnap post ((nI cn), (nI sn), (nI tn), (nI fc), pc, (lN ep), (fun i => nI (hp_m (H 0 i))), (fun i => nI (H 1 i)), (fun i => nI (H 2 i)), (fun i => nI (H 3 i)), (fun i => nI (H 4 i)), (fun i => nI (H 5 i)), (fun i => nI (H 6 i)), (fun i => lN (H 7 i)), (fun i => nI (H 8 i)), pd, pA, pB, (fun i => nI (rt i)), ca, tk, so, ro, se, ki, ko, vo, ng, nc, st)) ∧ (∀ post : Int32 → Prop, post r → wpY_postedSnap post ((nI cn), (nI sn), (nI tn), (nI ep), tk, (fun i => nI (ys i)), ca, (fun i => nI (yk i)), (fun i => nI (yv i)), so, ro, ki, ko, vo, ng, nd, se, su)) := by
  obtain ⟨r, hr, hX, hY⟩ := ps_l (cn := cn) (sn := sn) (fc := fc) (ep := ep) (H := H) (rt := rt) (pc := pc) (pd := pd) (pA := pA) (pB := pB) (ca := ca) (tk := tk) (so := so) (ro := ro) (se := se) (ki := ki) (ko := ko) (vo := vo) (ng := ng) (nc := nc) (st := st) (nd := nd) (su := su) (ys := ys) (yk := yk) (yv := yv) h4 tn 0 (by omega)
  refine ⟨r, hr, fun post hp => ?_, fun post hp => ?_⟩
  · unfold wpX_postedSnap
    exact ⟨tn + 1, hX post hp _ (by omega)⟩
  · unfold wpY_postedSnap
    exact ⟨tn + 1, hY post hp _ (by omega)⟩
theorem rv_l (h4 : tn ≤ 4) {t : Nat} (ht : t < tn) : ∀ m i, m + i = tn → ∃ r, (r = -1 ∨ ∃ w, w < tn ∧ r = nI w) ∧ (so t ≠ 3 → ∀ post : Int32 → Prop, post r → ∀ n, m < n → wX_postedWrite_2 post (ko t) (nI cn) (nI sn) (nI tn) (nI fc) pc (lN ep) (fun i => nI (hp_m (H 0 i))) (fun i => nI (H 1 i)) (fun i => nI (H 2 i)) (fun i => nI (H 3 i)) (fun i => nI (H 4 i)) (fun i => nI (H 5 i)) (fun i => nI (H 6 i)) (fun i => lN (H 7 i)) (fun i => nI (H 8 i)) pd pA pB (fun i => nI (rt i)) ca tk so ro se ki ko vo ng nc st n (nI i)) ∧ (∀ post : Int32 → Prop, post r → ∀ n, m < n → wY_rivalWrite_2 post (nI t) (nI cn) (nI sn) (nI tn) (nI ep) tk (fun i => nI (ys i)) ca (fun i => nI (yk i)) (fun i => nI (yv i)) so ro ki ko vo ng nd se su n (nI i)) := by
  have it : vp_in (nI t) 4 := vp_in_nI (by omega) (by decide)
  have ct : (nI t).toNatClampNeg = t := nI_clamp (by omega)
  intro m
  induction m with
  | zero =>
    intro i hi
    have le : nI tn ≤ nI i := nI_le (by omega) (by omega)
    refine ⟨-1, Or.inl rfl, fun _ post hp n hn => ?_, fun post hp n hn => ?_⟩
    · obtain ⟨n, rfl⟩ : ∃ n', n = n' + 1 := ⟨n - 1, by omega⟩
      exact br_t le hp
    · obtain ⟨n, rfl⟩ : ∃ n', n = n' + 1 := ⟨n - 1, by omega⟩
      exact br_t le hp
  | succ m ih =>
    intro i hi
    have gt : ¬ nI tn ≤ nI i := nI_ge (by omega) (by omega)
    have ii : vp_in (nI i) 4 := vp_in_nI (by omega) (by decide)
    have ci : (nI i).toNatClampNeg = i := nI_clamp (by omega)
    have eI : nI i = nI t ↔ i = t := nI_eq (by omega) (by omega)
    obtain ⟨r, hr, hX, hY⟩ := ih (i + 1) (by omega)
    by_cases hit : i ≠ t ∧ so i = 3 ∧ ¬ iw_v (ki i) = 0 ∧ ko i = ko t
    · refine ⟨nI i, Or.inr ⟨i, by omega, rfl⟩, fun _ post hp n hn => ?_, fun post hp n hn => ?_⟩
      · obtain ⟨n, rfl⟩ : ∃ n', n = n' + 1 := ⟨n - 1, by omega⟩
        refine br_f gt ⟨ii, br_t (by rw [ci]; exact hit.2.1) ⟨ii, br_t (by rw [ci]; exact hit.2.2.2) (iw_x (by omega) (br_f hit.2.2.1 hp))⟩⟩
      · obtain ⟨n, rfl⟩ : ∃ n', n = n' + 1 := ⟨n - 1, by omega⟩
        refine br_f gt (br_f (fun z => hit.1 (eI.mp z)) ⟨ii, br_t (by rw [ci]; exact hit.2.1) (iw_y (by omega) (br_f hit.2.2.1 ⟨ii, it, br_t ?_ hp⟩))⟩)
        rw [ci, ct]
        exact hit.2.2.2
    · refine ⟨r, hr, fun ns post hp n hn => ?_, fun post hp n hn => ?_⟩
      · obtain ⟨n, rfl⟩ : ∃ n', n = n' + 1 := ⟨n - 1, by omega⟩
        have nx := nm_r (nI_1 i) (P := fun x => wX_postedWrite_2 post (ko t) (nI cn) (nI sn) (nI tn) (nI fc) pc (lN ep) (fun i => nI (hp_m (H 0 i))) (fun i => nI (H 1 i)) (fun i => nI (H 2 i)) (fun i => nI (H 3 i)) (fun i => nI (H 4 i)) (fun i => nI (H 5 i)) (fun i => nI (H 6 i)) (fun i => lN (H 7 i)) (fun i => nI (H 8 i)) pd pA pB (fun i => nI (rt i)) ca tk so ro se ki ko vo ng nc st n x) (hX ns post hp n (by omega))
        refine br_f gt ⟨ii, ?_⟩
        rw [ci]
        refine br_c (fun a => ⟨ii, br_c (fun b => iw_x (by omega) (br_c (fun _ => nx) (fun c => ?_))) (fun _ => nx)⟩) (fun _ => nx)
        exact absurd ⟨fun z => ns (by rw [← z]; exact a), a, c, b⟩ hit
      · obtain ⟨n, rfl⟩ : ∃ n', n = n' + 1 := ⟨n - 1, by omega⟩
        have nx := nm_r (nI_1 i) (P := fun x => wY_rivalWrite_2 post (nI t) (nI cn) (nI sn) (nI tn) (nI ep) tk (fun i => nI (ys i)) ca (fun i => nI (yk i)) (fun i => nI (yv i)) so ro ki ko vo ng nd se su n x) (hY post hp n (by omega))
        refine br_f gt (br_c (fun _ => nx) (fun z => ⟨ii, ?_⟩))
        rw [ci, ct]
        refine br_c (fun a => iw_y (by omega) (br_c (fun _ => nx) (fun c => ⟨ii, it, br_c (fun b => ?_) (fun _ => nx)⟩))) (fun _ => nx)
        exact absurd ⟨fun y => z (eI.mpr y), a, c, b⟩ hit
theorem rv_wp (h4 : tn ≤ 4) {t : Nat} (ht : t < tn) : ∃ r, (r = -1 ∨ ∃ w, w < tn ∧ r = nI w) ∧ (so t ≠ 3 → ∀ post : Int32 → Prop, post r → wpX_postedWrite post ((nI cn), (nI sn), (nI tn), (nI fc), pc, (lN ep), (fun i => nI (hp_m (H 0 i))), (fun i => nI (H 1 i)), (fun i => nI (H 2 i)), (fun i => nI (H 3 i)), (fun i => nI (H 4 i)), (fun i => nI (H 5 i)), (fun i => nI (H 6 i)), (fun i => lN (H 7 i)), (fun i => nI (H 8 i)), pd, pA, pB, (fun i => nI (rt i)), ca, tk, so, ro, se, ki, ko, vo, ng, nc, st) (ko t)) ∧ (∀ post : Int32 → Prop, post r → wpY_rivalWrite post ((nI cn), (nI sn), (nI tn), (nI ep), tk, (fun i => nI (ys i)), ca, (fun i => nI (yk i)), (fun i => nI (yv i)), so, ro, ki, ko, vo, ng, nd, se, su) (nI t)) := by
  obtain ⟨r, hr, hX, hY⟩ := rv_l (cn := cn) (sn := sn) (fc := fc) (ep := ep) (H := H) (rt := rt) (pc := pc) (pd := pd) (pA := pA) (pB := pB) (ca := ca) (tk := tk) (so := so) (ro := ro) (se := se) (ki := ki) (ko := ko) (vo := vo) (ng := ng) (nc := nc) (st := st) (nd := nd) (su := su) (ys := ys) (yk := yk) (yv := yv) h4 ht tn 0 (by omega)
  refine ⟨r, hr, fun ns post hp => ?_, fun post hp => ?_⟩
  · unfold wpX_postedWrite
    exact ⟨tn + 1, hX ns post hp _ (by omega)⟩
  · unfold wpY_rivalWrite
    exact ⟨tn + 1, hY post hp _ (by omega)⟩
theorem ms_l (h4 : tn ≤ 4) {u : Nat} (hu : u < tn) (old t : Int32) : ∀ (m i : Nat) (st su : Nat → Int32), m + i = tn → (∀ q, q < 4 → so q ≠ 0 → so q ≠ 1 → so q ≠ 3 → so q ≠ 4 → ki q ≠ 4 → st q = su q) → ∃ st' su' : Nat → Int32, (∀ q, q < 4 → so q ≠ 0 → so q ≠ 1 → so q ≠ 3 → so q ≠ 4 → ki q ≠ 4 → st' q = su' q) ∧
    (∀ post : SX → Prop, post ((nI cn), (nI sn), (nI tn), (nI fc), pc, (lN ep), (fun i => nI (hp_m (H 0 i))), (fun i => nI (H 1 i)), (fun i => nI (H 2 i)), (fun i => nI (H 3 i)), (fun i => nI (H 4 i)), (fun i => nI (H 5 i)), (fun i => nI (H 6 i)), (fun i => lN (H 7 i)), (fun i => nI (H 8 i)), pd, pA, pB, (fun i => nI (rt i)), ca, tk, so, ro, se, ki, ko, vo, ng, nc, st') → ∀ n, m < n → wX_markStale_2 post (nI u) (ko u) (nI cn) (nI sn) (nI tn) (nI fc) pc (lN ep) n (nI i) (fun i => nI (hp_m (H 0 i))) (fun i => nI (H 1 i)) (fun i => nI (H 2 i)) (fun i => nI (H 3 i)) (fun i => nI (H 4 i)) (fun i => nI (H 5 i)) (fun i => nI (H 6 i)) (fun i => lN (H 7 i)) (fun i => nI (H 8 i)) pd pA pB (fun i => nI (rt i)) ca tk so ro se ki ko vo ng nc st) ∧
    (∀ post : SY → Prop, wpY_settle (fun u => match u with | (f0, f1, f2, f3, b0, b1, b2, b3, b4, b5, b6, b7, b8, b9, b10, b11, b12, b13) => post (f0, f1, f2, f3, b0, b1, b2, b3, b4, b5, b6, b7, b8, b9, b10, b11, b12, b13)) ((nI cn), (nI sn), (nI tn), (nI ep), tk, (fun i => nI (ys i)), ca, (fun i => nI (yk i)), (fun i => nI (yv i)), so, ro, ki, ko, vo, ng, nd, se, su') (nI u) old t → ∀ n, m < n → wY_resolveWrite_221 post (nI u) t old (nI cn) (nI sn) (nI tn) (nI ep) n (nI i) tk (fun i => nI (ys i)) ca (fun i => nI (yk i)) (fun i => nI (yv i)) so ro ki ko vo ng nd se su) := by
  have iu : vp_in (nI u) 4 := vp_in_nI (by omega) (by decide)
  have cu : (nI u).toNatClampNeg = u := nI_clamp (by omega)
  intro m
  induction m with
  | zero =>
    intro i st su hi hs
    have le : nI tn ≤ nI i := nI_le (by omega) (by omega)
    refine ⟨st, su, hs, fun post hp n hn => ?_, fun post hp n hn => ?_⟩
    · obtain ⟨n, rfl⟩ : ∃ n', n = n' + 1 := ⟨n - 1, by omega⟩
      exact br_t le hp
    · obtain ⟨n, rfl⟩ : ∃ n', n = n' + 1 := ⟨n - 1, by omega⟩
      exact br_t le hp
  | succ m ih =>
    intro i st su hi hs
    have gt : ¬ nI tn ≤ nI i := nI_ge (by omega) (by omega)
    have ii : vp_in (nI i) 4 := vp_in_nI (by omega) (by decide)
    have ci : (nI i).toNatClampNeg = i := nI_clamp (by omega)
    have eI : nI i = nI u ↔ i = u := nI_eq (by omega) (by omega)
    by_cases hit : i ≠ u ∧ so i = 2 ∧ ¬ iw_v (ki i) = 0 ∧ ko i = ko u
    · obtain ⟨st', su', hs', hX, hY⟩ := ih (i + 1) (upd st i (vp_nar .boolean 1)) (upd su i (vp_nar .boolean 1)) (by omega) (fun q hq => by
        by_cases z : q = i
        · rw [z, pk_us, pk_us]; intro _ _ _ _ _; rfl
        · rw [pk_un z, pk_un z]; exact hs q hq)
      refine ⟨st', su', hs', fun post hp n hn => ?_, fun post hp n hn => ?_⟩
      · obtain ⟨n, rfl⟩ : ∃ n', n = n' + 1 := ⟨n - 1, by omega⟩
        refine br_f gt (br_f (fun z => hit.1 (eI.mp z)) ⟨ii, br_t (by rw [ci]; exact hit.2.1) ⟨ii, br_t (by rw [ci]; exact hit.2.2.2) (iw_x (by omega) (br_f hit.2.2.1 ⟨ii, nm_r (e' := upd st i (vp_nar .boolean 1)) (by rw [ci]) (nm_r (nI_1 i) (hX post hp n (by omega)))⟩))⟩⟩)
      · obtain ⟨n, rfl⟩ : ∃ n', n = n' + 1 := ⟨n - 1, by omega⟩
        refine br_f gt (br_f (fun z => hit.1 (eI.mp z)) ⟨ii, br_t (by rw [ci]; exact hit.2.1) (iw_y (by omega) (br_f hit.2.2.1 ⟨ii, iu, br_t ?_ ⟨ii, nm_r (e' := upd su i (vp_nar .boolean 1)) (by rw [ci]) (nm_r (nI_1 i) (hY post hp n (by omega)))⟩⟩))⟩)
        rw [ci, cu]
        exact hit.2.2.2
    · obtain ⟨st', su', hs', hX, hY⟩ := ih (i + 1) st su (by omega) hs
      refine ⟨st', su', hs', fun post hp n hn => ?_, fun post hp n hn => ?_⟩
      · obtain ⟨n, rfl⟩ : ∃ n', n = n' + 1 := ⟨n - 1, by omega⟩
        have nx := nm_r (nI_1 i) (P := fun x => wX_markStale_2 post (nI u) (ko u) (nI cn) (nI sn) (nI tn) (nI fc) pc (lN ep) n x (fun i => nI (hp_m (H 0 i))) (fun i => nI (H 1 i)) (fun i => nI (H 2 i)) (fun i => nI (H 3 i)) (fun i => nI (H 4 i)) (fun i => nI (H 5 i)) (fun i => nI (H 6 i)) (fun i => lN (H 7 i)) (fun i => nI (H 8 i)) pd pA pB (fun i => nI (rt i)) ca tk so ro se ki ko vo ng nc st) (hX post hp n (by omega))
        refine br_f gt (br_c (fun _ => nx) (fun z => ⟨ii, ?_⟩))
        rw [ci]
        refine br_c (fun a => ⟨ii, br_c (fun b => iw_x (by omega) (br_c (fun _ => nx) (fun c => ?_))) (fun _ => nx)⟩) (fun _ => nx)
        exact absurd ⟨fun y => z (eI.mpr y), a, c, b⟩ hit
      · obtain ⟨n, rfl⟩ : ∃ n', n = n' + 1 := ⟨n - 1, by omega⟩
        have nx := nm_r (nI_1 i) (P := fun x => wY_resolveWrite_221 post (nI u) t old (nI cn) (nI sn) (nI tn) (nI ep) n x tk (fun i => nI (ys i)) ca (fun i => nI (yk i)) (fun i => nI (yv i)) so ro ki ko vo ng nd se su) (hY post hp n (by omega))
        refine br_f gt (br_c (fun _ => nx) (fun z => ⟨ii, ?_⟩))
        rw [ci, cu]
        refine br_c (fun a => iw_y (by omega) (br_c (fun _ => nx) (fun c => ⟨ii, iu, br_c (fun b => ?_) (fun _ => nx)⟩))) (fun _ => nx)
        exact absurd ⟨fun y => z (eI.mpr y), a, c, b⟩ hit
/-- the end of a write: one change more, stale marks, settled -/
theorem tl_wp (F : rl_F cn sn tn fc ep H rt tk so ki ko vo nc nd st su ys yk yv B) {u : Nat} (hu : u < tn) (old t : Int32) :
    oc_O (fun post => wX_resolveWrite_147 post (nI u) t (ko u) old (nI cn) (nI sn) (nI tn) (nI fc) pc (lN ep) (fun i => nI (hp_m (H 0 i))) (fun i => nI (H 1 i)) (fun i => nI (H 2 i)) (fun i => nI (H 3 i)) (fun i => nI (H 4 i)) (fun i => nI (H 5 i)) (fun i => nI (H 6 i)) (fun i => lN (H 7 i)) (fun i => nI (H 8 i)) pd pA pB (fun i => nI (rt i)) ca tk so ro se ki ko vo ng nc st) (fun post => wY_resolveWrite_208 post (nI u) t old (nI cn) (nI sn) (nI tn) (nI ep) tk (fun i => nI (ys i)) ca (fun i => nI (yk i)) (fun i => nI (yv i)) so ro ki ko vo ng nd se su) cn sn tn pc pA pB ki ko vo B := by
  have t4 := F.2.2.1.2
  obtain ⟨st', su', hs, hX, hY⟩ := ms_l (cn := cn) (sn := sn) (fc := fc) (ep := ep) (H := H) (rt := rt) (pc := pc) (pd := pd) (pA := pA) (pB := pB) (ca := upd ca 0 (ca 0 + 1)) (tk := tk) (so := so) (ro := ro) (se := se) (ki := ki) (ko := ko) (vo := vo) (ng := ng) (nc := nc) (nd := nd) (ys := ys) (yk := yk) (yv := yv) t4 hu old t tn 0 st su (by omega) F.2.2.2.2.2.2.2.2.2.2.1
  have F' : rl_F cn sn tn fc ep H rt tk so ki ko vo nc nd st' su' ys yk yv B := by
    obtain ⟨f1, f2, f3, f4, f5, f6, f7, f8, f9, f10, f11, f12⟩ := F
    exact ⟨f1, f2, f3, f4, f5, f6, f7, f8, f9, f10, hs, f12⟩
  refine oc_t (se_wp (pc := pc) (pd := pd) (pA := pA) (pB := pB) (ca := upd ca 0 (ca 0 + 1)) (ro := ro) (se := se) (ng := ng) F' (u := u) (by omega) old t) (fun post hp => ?_) (fun post hp => ?_)
  · unfold wX_resolveWrite_147
    refine nm_e ?_
    unfold wpX_markStale
    exact ⟨tn + 1, hX _ hp _ (by omega)⟩
  · unfold wY_resolveWrite_208
    exact nm_e ⟨tn + 1, hY _ hp _ (by omega)⟩
end
end
section
/-! resolveWrite in lockstep -/
section
variable {cn sn tn fc ep B : Nat} {H : Nat → Nat → Nat} {rt : Nat → Nat} {pc : Int32} {pd pA pB ca tk so ro se ki ko vo ng nc st nd su : Nat → Int32} {ys yk yv : Nat → Nat}
theorem rl_bo (F : rl_F cn sn tn fc ep H rt tk so ki ko vo nc nd st su ys yk yv B) {kk w fc' : Nat} {H' : Nat → Nat → Nat} {rt' ys' yk' yv' : Nat → Nat} (b : bo_O H rt ep kk w H' rt' fc')
    (h0 : ys' 0 ≤ cn ∧ ro_R (un_u (mp_m H (rt 0)) kk w) yk' yv' 0 (ys' 0)) (hr : ∀ s, s ≠ 0 → ys' s = ys s) (hj : ∀ j, 24 ≤ j → yk' j = yk j ∧ yv' j = yv j) :
    rl_F cn sn tn fc' ep H' rt' tk so ki ko vo nc nd st su ys' yk' yv' B := by
  obtain ⟨f1, f2, f3, f4, f5, f6, f7, f8, f9, f10, f11, f12⟩ := F
  obtain ⟨b1, b2, b3, b4, b5⟩ := b
  refine ⟨f1, f2, f3, b1, b2, f6, f7, fun s hs hz => ?_, fun s hs hz => ?_, f10, f11, f12⟩
  · have s0 : s ≠ 0 := fun y => f7 (by rw [← y]; exact hz)
    rw [b3 s s0]
    exact f8 s hs hz
  · by_cases s0 : s = 0
    · subst s0
      rw [b5]
      exact h0
    · rw [b4 s s0 hs, hr s s0]
      have h1 := f9 s hs hz
      refine ⟨h1.1, ro_c h1.2 (fun i _ => hj (s * 24 + i) ?_)⟩
      have : 1 ≤ s := by omega
      omega
theorem w16_wp (F : rl_F cn sn tn fc ep H rt tk so ki ko vo nc nd st su ys yk yv B) (hB : B < 2 ^ 31) {u : Nat} (hu : u < tn) (t : Int32) :
    oc_O (fun post => wX_resolveWrite_16 post (nI u) t (nI cn) (nI sn) (nI tn) (nI fc) pc (lN ep) (fun i => nI (hp_m (H 0 i))) (fun i => nI (H 1 i)) (fun i => nI (H 2 i)) (fun i => nI (H 3 i)) (fun i => nI (H 4 i)) (fun i => nI (H 5 i)) (fun i => nI (H 6 i)) (fun i => lN (H 7 i)) (fun i => nI (H 8 i)) pd pA pB (fun i => nI (rt i)) ca tk so ro se ki ko vo ng nc st) (fun post => wY_resolveWrite_16 post (nI u) t (nI cn) (nI sn) (nI tn) (nI ep) tk (fun i => nI (ys i)) ca (fun i => nI (yk i)) (fun i => nI (yv i)) so ro ki ko vo ng nd se su) cn sn tn pc pA pB ki ko vo B := by
  have t4 := F.2.2.1.2
  have C := F.2.2.2.1
  have E := F.2.2.2.2.1
  have e31 : ep < 2 ^ 31 := by have := F.2.2.2.2.2.1; omega
  have c24 := F.1.2
  have iu : vp_in (nI u) 4 := vp_in_nI (by omega) (by decide)
  have cu : (nI u).toNatClampNeg = u := nI_clamp (by omega)
  by_cases g : ng u = nI ep
  · have g' : ng (nI u).toNatClampNeg = (lN ep).toInt32 := by rw [cu, lN_i]; exact g
    have gy : ng (nI u).toNatClampNeg = nI ep := by rw [cu]; exact g
    obtain ⟨⟨kk, hkk, ek⟩, ⟨vv, hvv, ev⟩⟩ := F.2.2.2.2.2.2.2.2.2.1 u (by omega)
    have T := hp_CT C hp_xz
    have s0 := hp_rS C hp_xz (s := 0) (by decide)
    have h3 := rl_3 F (s := 0) (by decide)
    have tk0 := F.2.2.2.2.2.2.1
    have R0 := F.2.2.2.2.2.2.2.2.1 0 (by decide) tk0
    have y0 := h3.2.2 tk0
    have hf := rl_20 F
    have b24 : cn_c (mp_m H (rt 0)) 65536 ≤ 24 := by rw [h3.2.1]; exact h3.1
    have R00 : ro_R (mp_m H (rt 0)) yk yv 0 (ys 0) := R0.2
    have fb := mp_v T (k := kk) s0
    obtain ⟨r, hr, hfi⟩ := fi_wp (cp := nI cn) (sl := nI sn) (th := nI tn) (tk := tk) (ca := ca) (so := so) (ro := ro) (ki := ki) (ko := ko) (vo := vo) (ng := ng) (nd := nd) (se := se) (su := su) (ep := ep) (s := 0) (by decide) R0.2 (k := kk) (by omega)
    have ekx : ko (nI u).toNatClampNeg = nI kk := by rw [cu]; exact ek
    have ku : ko u = nI kk := ek
    -- how both sides come to the parting of ways
    have preX : ∀ post : SX → Prop, (ki u = 3 → wX_resolveWrite_75 post (nI u) t (ko u) (lk_v (mp_m H (rt 0) kk)) 1 (nI cn) (nI sn) (nI tn) (nI fc) pc (lN ep) (fun i => nI (hp_m (H 0 i))) (fun i => nI (H 1 i)) (fun i => nI (H 2 i)) (fun i => nI (H 3 i)) (fun i => nI (H 4 i)) (fun i => nI (H 5 i)) (fun i => nI (H 6 i)) (fun i => lN (H 7 i)) (fun i => nI (H 8 i)) pd pA pB (fun i => nI (rt i)) ca tk so ro se ki ko vo ng nc st) → (¬ ki u = 3 → wX_resolveWrite_75 post (nI u) t (ko u) (lk_v (mp_m H (rt 0) kk)) 0 (nI cn) (nI sn) (nI tn) (nI fc) pc (lN ep) (fun i => nI (hp_m (H 0 i))) (fun i => nI (H 1 i)) (fun i => nI (H 2 i)) (fun i => nI (H 3 i)) (fun i => nI (H 4 i)) (fun i => nI (H 5 i)) (fun i => nI (H 6 i)) (fun i => lN (H 7 i)) (fun i => nI (H 8 i)) pd pA pB (fun i => nI (rt i)) ca tk so ro se ki ko vo ng nc st) → wX_resolveWrite_16 post (nI u) t (nI cn) (nI sn) (nI tn) (nI fc) pc (lN ep) (fun i => nI (hp_m (H 0 i))) (fun i => nI (H 1 i)) (fun i => nI (H 2 i)) (fun i => nI (H 3 i)) (fun i => nI (H 4 i)) (fun i => nI (H 5 i)) (fun i => nI (H 6 i)) (fun i => lN (H 7 i)) (fun i => nI (H 8 i)) pd pA pB (fun i => nI (rt i)) ca tk so ro se ki ko vo ng nc st := by
      intro post h1 h2
      unfold wX_resolveWrite_16
      refine ⟨iu, br_t g' ⟨iu, nm_r (e' := nI kk) ekx (lk_wp T s0 (by omega) ⟨iu, ?_⟩)⟩⟩
      rw [cu, ← ku]
      exact ⟨h1, h2⟩
    have preY : ∀ post : SY → Prop, ((r = -1 ∧ mp_m H (rt 0) kk = 0) → wY_resolveWrite_66 post (nI u) t (-1) (-1) (nI cn) (nI sn) (nI tn) (nI ep) tk (fun i => nI (ys i)) ca (fun i => nI (yk i)) (fun i => nI (yv i)) so ro ki ko vo ng nd se su) → (∀ i, i < ys 0 → yk i = kk → r = nI i → wY_resolveWrite_66 post (nI u) t (nI i) (lk_v (mp_m H (rt 0) kk)) (nI cn) (nI sn) (nI tn) (nI ep) tk (fun i => nI (ys i)) ca (fun i => nI (yk i)) (fun i => nI (yv i)) so ro ki ko vo ng nd se su) → wY_resolveWrite_16 post (nI u) t (nI cn) (nI sn) (nI tn) (nI ep) tk (fun i => nI (ys i)) ca (fun i => nI (yk i)) (fun i => nI (yv i)) so ro ki ko vo ng nd se su := by
      intro post h1 h2
      unfold wY_resolveWrite_16
      refine ⟨iu, br_t gy ⟨iu, ?_⟩⟩
      rw [ekx]
      refine hfi _ ?_
      rcases hr with hr | ⟨i, hi, e1, e2⟩
      · rw [hr.1]
        exact br_f (by decide) (h1 hr)
      · have e1' : r = nI i := by rw [e1, Nat.zero_mul, Nat.zero_add]
        have e2' : yk i = kk := by rw [Nat.zero_mul, Nat.zero_add] at e2; exact e2
        have hb := R00.2.1 i hi
        rw [Nat.zero_add, e2'] at hb
        have hh := h2 i hi e2' e1'
        rw [hb.1, lk_s] at hh
        have i24 := R00.1
        rw [e1']
        refine br_t (nI_pos' (by omega)) ⟨vp_in_nI (by omega) (by decide), ?_⟩
        dsimp only
        rw [nI_clamp (by omega)]
        exact hh
    by_cases rem : ki u = 3
    · by_cases fk : mp_m H (rt 0) kk = 0
      · -- nothing to take away
        have hrr : r = -1 := by
          rcases hr with hr | ⟨i, hi, e1, e2⟩
          · exact hr.1
          · have hb := R0.2.2.1 i hi
            rw [e2, fk] at hb
            omega
        refine oc_t (tl_wp (pc := pc) (pd := pd) (pA := pA) (pB := pB) (ca := ca) (ro := ro) (se := se) (ng := ng) F hu (-1) t) (fun post hp => preX post (fun _ => ?_) (fun z => absurd rem z)) (fun post hp => preY post (fun _ => ?_) (fun i _ _ e1 => ?_))
        · rw [fk]
          unfold wX_resolveWrite_75
          refine br_f (by decide) ?_
          unfold wX_resolveWrite_115
          exact br_f (by decide) (br_t rfl hp)
        · unfold wY_resolveWrite_66
          refine ⟨iu, br_t (by rw [cu]; exact rem) (br_t (by decide) hp)⟩
        · have i24 := R00.1
          rw [hrr] at e1
          exact absurd e1.symm (xI_m1 (by omega))
      · -- taken away
        obtain ⟨H', rt', fc', pd', Bo, hw⟩ := un_wp (cp := nI cn) (sl := nI sn) (th := nI tn) (pc := pc) (pd := pd) (pA := pA) (pB := pB) (ca := ca) (tk := tk) (so := so) (ro := ro) (se := se) (ki := ki) (ko := ko) (vo := vo) (ng := ng) (nc := nc) (st := st) e31 C E fk hf b24
        rcases hr with hr | ⟨i, hi, e1, e2⟩
        · exact absurd hr.2 fk
        · have e2' : yk i = kk := by rw [Nat.zero_mul, Nat.zero_add] at e2; exact e2
          have i24 := R00.1
          obtain ⟨m, hm⟩ : ∃ m, ys 0 = m + 1 := ⟨ys 0 - 1, by omega⟩
          have Rr := ro_r (by rw [hm] at R00; exact R00) (i := i) (k := kk) (by omega) (by rw [Nat.zero_add]; exact e2')
          rw [Nat.zero_add, Nat.zero_add] at Rr
          have F' := rl_bo F Bo (ys' := un_u ys 0 m) (yk' := un_u yk i (yk m)) (yv' := un_u yv i (yv m)) (by rw [un_s]; exact ⟨by have := R0.1; omega, Rr⟩) (fun s hs => un_n hs) (fun j hj => ⟨un_n (by omega), un_n (by omega)⟩)
          refine oc_t (tl_wp (pc := pc) (pd := pd') (pA := pA) (pB := pB) (ca := ca) (ro := ro) (se := se) (ng := ng) F' hu (lk_v (mp_m H (rt 0) kk)) t) (fun post hp => preX post (fun _ => ?_) (fun z => absurd rem z)) (fun post hp => preY post (fun z => absurd z.2 fk) (fun i' hi' e2'' e1' => ?_))
          · unfold wX_resolveWrite_75
            refine br_f (by decide) ?_
            unfold wX_resolveWrite_115
            refine br_f (by decide) (br_f (fun z => fk ((lk_m1 fb).mp z)) ?_)
            have hh := hw (fun u_1 => match u_1 with | (f0, f1, f2, f3, f4, f5, b0, b1, b2, b3, b4, b5, b6, b7, b8, b9, b10, b11, b12, b13, b14, b15, b16, b17, b18, b19, b20, b21, b22, b23) => wX_resolveWrite_147 (fun u => match u with | (f0, f1, f2, f3, f4, f5, b0, b1, b2, b3, b4, b5, b6, b7, b8, b9, b10, b11, b12, b13, b14, b15, b16, b17, b18, b19, b20, b21, b22, b23) => post (f0, f1, f2, f3, f4, f5, b0, b1, b2, b3, b4, b5, b6, b7, b8, b9, b10, b11, b12, b13, b14, b15, b16, b17, b18, b19, b20, b21, b22, b23)) (nI u) t (ko u) (lk_v (mp_m H (rt 0) kk)) f0 f1 f2 f3 f4 f5 b0 b1 b2 b3 b4 b5 b6 b7 b8 b9 b10 b11 b12 b13 b14 b15 b16 b17 b18 b19 b20 b21 b22 b23) hp
            rw [ku] at hh ⊢
            exact hh
          · have ii : i' = i := R00.2.2.2 i' i (by omega) hi (by rw [Nat.zero_add, Nat.zero_add, e2'', e2'])
            subst ii
            unfold wY_resolveWrite_66
            have im : vp_in (nI m) 120 := vp_in_nI (by omega) (by decide)
            have ii2 : vp_in (nI i') 120 := vp_in_nI (by omega) (by decide)
            have ci : (nI i').toNatClampNeg = i' := nI_clamp (by omega)
            have cm : (nI m).toNatClampNeg = m := nI_clamp (by omega)
            refine ⟨iu, br_t (by rw [cu]; exact rem) (br_f (nI_pos (by omega)) (nm_r (e' := fun i => nI (un_u ys 0 m i)) ?_ ?_))⟩
            · dsimp only
              rw [hm, nI_pred]
              exact un_I ys 0 m
            · have hs0 : (fun i => nI (un_u ys 0 m i)) 0 = nI m := by
                show nI (un_u ys 0 m 0) = _
                rw [un_s]
              rw [hs0]
              refine ⟨im, ii2, nm_r (e' := fun j => nI (un_u yk i' (yk m) j)) ?_ ⟨im, ii2, nm_r (e' := fun j => nI (un_u yv i' (yv m) j)) ?_ hp⟩⟩
              · dsimp only
                rw [ci, cm]
                exact un_I yk i' (yk m)
              · dsimp only
                rw [ci, cm]
                exact un_I yv i' (yv m)
    · -- bound
      have ri : vp_in (nI (rt 0)) 256 := vp_in_nI s0.1 (by decide)
      have cr : (nI (rt 0)).toNatClampNeg = rt 0 := nI_clamp (by have := s0.1; omega)
      by_cases fk : mp_m H (rt 0) kk = 0
      · have hrr : r = -1 := by
          rcases hr with hr | ⟨i, hi, e1, e2⟩
          · exact hr.1
          · have hb := R0.2.2.1 i hi
            rw [e2, fk] at hb
            omega
        by_cases full : ys 0 < cn
        · obtain ⟨H', rt', fc', pd', Bo, hw⟩ := bi_wp (cp := nI cn) (sl := nI sn) (th := nI tn) (pc := pc) (pd := pd) (pA := pA) (pB := pB) (ca := ca) (tk := tk) (so := so) (ro := ro) (se := se) (ki := ki) (ko := ko) (vo := vo) (ng := ng) (nc := nc) (st := st) hvv hkk e31 C E hf b24
          have Ra := ro_a R00 (k := kk) (v := vv) fk (by omega) hkk hvv
          rw [Nat.zero_add] at Ra
          have F' := rl_bo F Bo (ys' := un_u ys 0 (ys 0 + 1)) (yk' := un_u yk (ys 0) kk) (yv' := un_u yv (ys 0) vv) (by rw [un_s]; exact ⟨by omega, Ra⟩) (fun s hs => un_n hs) (fun j hj => ⟨un_n (by omega), un_n (by omega)⟩)
          refine oc_t (tl_wp (pc := pc) (pd := pd') (pA := pA) (pB := pB) (ca := ca) (ro := ro) (se := se) (ng := ng) F' hu (-1) t) (fun post hp => preX post (fun z => absurd z rem) (fun _ => ?_)) (fun post hp => preY post (fun _ => ?_) (fun i _ _ e1 => ?_))
          · rw [fk]
            unfold wX_resolveWrite_75
            refine br_t rfl (br_t rfl ⟨ri, br_t ?_ ?_⟩)
            · dsimp only
              rw [cr, ← y0]
              exact nI_lt full (by omega)
            · unfold wX_resolveWrite_115
              refine br_t rfl ⟨iu, ?_⟩
              have hh := hw (fun u_1 => match u_1 with | (f0, f1, f2, f3, f4, f5, b0, b1, b2, b3, b4, b5, b6, b7, b8, b9, b10, b11, b12, b13, b14, b15, b16, b17, b18, b19, b20, b21, b22, b23) => wX_resolveWrite_147 (fun u => match u with | (f0, f1, f2, f3, f4, f5, b0, b1, b2, b3, b4, b5, b6, b7, b8, b9, b10, b11, b12, b13, b14, b15, b16, b17, b18, b19, b20, b21, b22, b23) => post (f0, f1, f2, f3, f4, f5, b0, b1, b2, b3, b4, b5, b6, b7, b8, b9, b10, b11, b12, b13, b14, b15, b16, b17, b18, b19, b20, b21, b22, b23)) (nI u) t (ko u) (-1) f0 f1 f2 f3 f4 f5 b0 b1 b2 b3 b4 b5 b6 b7 b8 b9 b10 b11 b12 b13 b14 b15 b16 b17 b18 b19 b20 b21 b22 b23) hp
              rw [cu, ev]
              rw [ku] at hh ⊢
              exact hh
          · unfold wY_resolveWrite_66
            refine ⟨iu, br_f (by rw [cu]; exact rem) (br_f (by decide) (br_t (nI_lt full (by omega)) ?_))⟩
            unfold wY_resolveWrite_105
            refine br_f (by decide) (nm_e (nm_r (e' := fun i => nI (un_u ys 0 (ys 0 + 1) i)) ?_ ?_))
            · dsimp only
              rw [nI_1]
              exact un_I ys 0 (ys 0 + 1)
            · unfold wY_resolveWrite_128
              have im : vp_in (nI (ys 0)) 120 := vp_in_nI (by omega) (by decide)
              have cm : (nI (ys 0)).toNatClampNeg = ys 0 := nI_clamp (by omega)
              refine ⟨iu, im, nm_r (e' := fun j => nI (un_u yk (ys 0) kk j)) ?_ ⟨iu, im, nm_r (e' := fun j => nI (un_u yv (ys 0) vv j)) ?_ hp⟩⟩
              · rw [cm, cu, ku]
                exact un_I yk (ys 0) kk
              · rw [cm, cu, ev]
                exact un_I yv (ys 0) vv
          · have i24 := R00.1
            rw [hrr] at e1
            exact absurd e1.symm (xI_m1 (by omega))
        · refine oc_t (se_wp (pc := pc) (pd := pd) (pA := pA) (pB := pB) (ca := ca) (ro := ro) (se := se) (ng := ng) F (u := u) (by omega) (-2) t) (fun post hp => preX post (fun z => absurd z rem) (fun _ => ?_)) (fun post hp => preY post (fun _ => ?_) (fun i _ _ e1 => ?_))
          · rw [fk]
            unfold wX_resolveWrite_75
            refine br_t rfl (br_t rfl ⟨ri, br_f ?_ hp⟩)
            dsimp only
            rw [cr, ← y0]
            exact nI_nlt (by omega) (by have := R00.1; omega)
          · unfold wY_resolveWrite_66
            exact ⟨iu, br_f (by rw [cu]; exact rem) (br_f (by decide) (br_f (nI_nlt (by omega) (by have := R00.1; omega)) hp))⟩
          · have i24 := R00.1
            rw [hrr] at e1
            exact absurd e1.symm (xI_m1 (by omega))
      · obtain ⟨H', rt', fc', pd', Bo, hw⟩ := bi_wp (cp := nI cn) (sl := nI sn) (th := nI tn) (pc := pc) (pd := pd) (pA := pA) (pB := pB) (ca := ca) (tk := tk) (so := so) (ro := ro) (se := se) (ki := ki) (ko := ko) (vo := vo) (ng := ng) (nc := nc) (st := st) hvv hkk e31 C E hf b24
        rcases hr with hr | ⟨i, hi, e1, e2⟩
        · exact absurd hr.2 fk
        · have e2' : yk i = kk := by rw [Nat.zero_mul, Nat.zero_add] at e2; exact e2
          have i24 := R00.1
          have Ro := ro_o R00 (k := kk) (v := vv) hi (by rw [Nat.zero_add]; exact e2') hvv
          rw [Nat.zero_add] at Ro
          have F' := rl_bo F Bo (ys' := ys) (yk' := un_u yk i kk) (yv' := un_u yv i vv) ⟨R0.1, Ro⟩ (fun s hs => rfl) (fun j hj => ⟨un_n (by omega), un_n (by omega)⟩)
          refine oc_t (tl_wp (pc := pc) (pd := pd') (pA := pA) (pB := pB) (ca := ca) (ro := ro) (se := se) (ng := ng) F' hu (lk_v (mp_m H (rt 0) kk)) t) (fun post hp => preX post (fun z => absurd z rem) (fun _ => ?_)) (fun post hp => preY post (fun z => absurd z.2 fk) (fun i' hi' e2'' e1' => ?_))
          · unfold wX_resolveWrite_75
            refine br_t rfl (br_f (fun z => fk ((lk_m1 fb).mp z)) ?_)
            unfold wX_resolveWrite_115
            refine br_t rfl ⟨iu, ?_⟩
            have hh := hw (fun u_1 => match u_1 with | (f0, f1, f2, f3, f4, f5, b0, b1, b2, b3, b4, b5, b6, b7, b8, b9, b10, b11, b12, b13, b14, b15, b16, b17, b18, b19, b20, b21, b22, b23) => wX_resolveWrite_147 (fun u => match u with | (f0, f1, f2, f3, f4, f5, b0, b1, b2, b3, b4, b5, b6, b7, b8, b9, b10, b11, b12, b13, b14, b15, b16, b17, b18, b19, b20, b21, b22, b23) => post (f0, f1, f2, f3, f4, f5, b0, b1, b2, b3, b4, b5, b6, b7, b8, b9, b10, b11, b12, b13, b14, b15, b16, b17, b18, b19, b20, b21, b22, b23)) (nI u) t (ko u) (lk_v (mp_m H (rt 0) kk)) f0 f1 f2 f3 f4 f5 b0 b1 b2 b3 b4 b5 b6 b7 b8 b9 b10 b11 b12 b13 b14 b15 b16 b17 b18 b19 b20 b21 b22 b23) hp
            rw [cu, ev]
            rw [ku] at hh ⊢
            exact hh
          · have ii : i' = i := R00.2.2.2 i' i (by omega) hi (by rw [Nat.zero_add, Nat.zero_add, e2'', e2'])
            subst ii
            have ii2 : vp_in (nI i') 120 := vp_in_nI (by omega) (by decide)
            have ci : (nI i').toNatClampNeg = i' := nI_clamp (by omega)
            have pos : (0 : Int32) ≤ nI i' := nI_pos' (by omega)
            unfold wY_resolveWrite_66
            refine ⟨iu, br_f (by rw [cu]; exact rem) (br_t pos ?_)⟩
            unfold wY_resolveWrite_105
            refine br_t pos ?_
            unfold wY_resolveWrite_128
            refine ⟨iu, ii2, nm_r (e' := fun j => nI (un_u yk i' kk j)) ?_ ⟨iu, ii2, nm_r (e' := fun j => nI (un_u yv i' vv j)) ?_ hp⟩⟩
            · rw [ci, cu, ku]
              exact un_I yk i' kk
            · rw [ci, cu, ev]
              exact un_I yv i' vv
  · have g' : ¬ ng (nI u).toNatClampNeg = (lN ep).toInt32 := by rw [cu, lN_i]; exact g
    have gy : ¬ ng (nI u).toNatClampNeg = nI ep := by rw [cu]; exact g
    refine ⟨fc, ep, H, rt, pd, ca, tk, upd so u 1, ro, se, ng, nc, st, nd, su, ys, yk, yv, rl_so F u (by decide), fun post hp => ?_, fun post hp => ?_⟩
    · unfold wX_resolveWrite_16
      refine ⟨iu, br_f g' ⟨iu, nm_r (e' := upd so u 1) (by rw [cu]) hp⟩⟩
    · unfold wY_resolveWrite_16
      refine ⟨iu, br_f gy ⟨iu, nm_r (e' := upd so u 1) (by rw [cu]) hp⟩⟩
theorem wr_wp (F : rl_F cn sn tn fc ep H rt tk so ki ko vo nc nd st su ys yk yv B) (hB : B < 2 ^ 31) {u : Nat} (hu : u < tn) (t : Int32) :
    oc_O (fun post => wpX_resolveWrite post ((nI cn), (nI sn), (nI tn), (nI fc), pc, (lN ep), (fun i => nI (hp_m (H 0 i))), (fun i => nI (H 1 i)), (fun i => nI (H 2 i)), (fun i => nI (H 3 i)), (fun i => nI (H 4 i)), (fun i => nI (H 5 i)), (fun i => nI (H 6 i)), (fun i => lN (H 7 i)), (fun i => nI (H 8 i)), pd, pA, pB, (fun i => nI (rt i)), ca, tk, so, ro, se, ki, ko, vo, ng, nc, st) (nI u) t) (fun post => wpY_resolveWrite post ((nI cn), (nI sn), (nI tn), (nI ep), tk, (fun i => nI (ys i)), ca, (fun i => nI (yk i)), (fun i => nI (yv i)), so, ro, ki, ko, vo, ng, nd, se, su) (nI u) t) cn sn tn pc pA pB ki ko vo B := by
  have t4 := F.2.2.1.2
  obtain ⟨r, hr, hX, hY⟩ := ps_wp (cn := cn) (sn := sn) (fc := fc) (ep := ep) (H := H) (rt := rt) (pc := pc) (pd := pd) (pA := pA) (pB := pB) (ca := ca) (tk := tk) (so := so) (ro := ro) (se := se) (ki := ki) (ko := ko) (vo := vo) (ng := ng) (nc := nc) (st := st) (nd := nd) (su := su) (ys := ys) (yk := yk) (yv := yv) t4
  rcases hr with hr | ⟨w, hw, e, _, _⟩
  · refine oc_t (w16_wp (pc := pc) (pd := pd) (pA := pA) (pB := pB) (ca := ca) (ro := ro) (se := se) (ng := ng) F hB hu t) (fun post hp => ?_) (fun post hp => ?_)
    · unfold wpX_resolveWrite
      exact hX _ (br_t (by rw [hr]; decide) hp)
    · unfold wpY_resolveWrite
      exact hY _ (br_t (by rw [hr]; decide) hp)
  · have iw : vp_in r 4 := by rw [e]; exact vp_in_nI (by omega) (by decide)
    have cw : r.toNatClampNeg = w := by rw [e]; exact nI_clamp (by omega)
    have nn : ¬ r < 0 := by rw [e]; exact nI_pos (by omega)
    refine oc_t (w16_wp (pc := pc) (pd := pd) (pA := pA) (pB := pB) (ca := ca) (ro := ro) (se := se) (ng := ng) (rl_so F w (x := 1) (by decide)) hB hu t) (fun post hp => ?_) (fun post hp => ?_)
    · unfold wpX_resolveWrite
      exact hX _ (br_f nn ⟨iw, nm_r (e' := upd so w 1) (by rw [cw]) hp⟩)
    · unfold wpY_resolveWrite
      exact hY _ (br_f nn ⟨iw, nm_r (e' := upd so w 1) (by rw [cw]) hp⟩)
end
end
section
/-! resolveSnapshot in lockstep -/
def xm_m : Nat → Int32
  | 0 => -1
  | i + 1 => nI i
theorem xm_s (i : Nat) : nI i + (-1) = xm_m i := by
  cases i with
  | zero => decide
  | succ i => exact pk_m1 i
/-- the first i places copied to b -/
def cy_f (y : Nat → Nat) (b i : Nat) : Nat → Nat := fun j => if b ≤ j ∧ j < b + i then y (j - b) else y j
theorem cy_0 (y : Nat → Nat) (b : Nat) : cy_f y b 0 = y := by
  funext j
  unfold cy_f
  rw [if_neg (by omega)]
theorem cy_s (y : Nat → Nat) {b i : Nat} (h : i < b) : un_u (cy_f y b i) (b + i) (cy_f y b i i) = cy_f y b (i + 1) := by
  funext j
  unfold un_u cy_f
  by_cases z : j = b + i
  · rw [if_pos z, if_neg (by omega), if_pos (by omega), z, Nat.add_sub_cancel_left]
  · rw [if_neg z]
    by_cases a : b ≤ j ∧ j < b + i
    · rw [if_pos a, if_pos (by omega)]
    · rw [if_neg a, if_neg (by omega)]
section
variable {cn sn tn fc ep B : Nat} {H : Nat → Nat → Nat} {rt : Nat → Nat} {pc : Int32} {pd pA pB ca tk so ro se ki ko vo ng nc st nd su : Nat → Int32} {ys yk yv : Nat → Nat}
theorem lx_n (h4 : sn ≤ 4) {post : Int32 → Prop} (all : ∀ q, q < sn → tk (q + 1) ≠ 0) (hp : post (-1)) : ∀ m i, m + i = sn → ∀ n, m < n → wX_lowestFreeSlot_2 post (nI cn) (nI sn) (nI tn) (nI fc) pc (lN ep) (fun i => nI (hp_m (H 0 i))) (fun i => nI (H 1 i)) (fun i => nI (H 2 i)) (fun i => nI (H 3 i)) (fun i => nI (H 4 i)) (fun i => nI (H 5 i)) (fun i => nI (H 6 i)) (fun i => lN (H 7 i)) (fun i => nI (H 8 i)) pd pA pB (fun i => nI (rt i)) ca tk so ro se ki ko vo ng nc st n (nI i) := by
  intro m
  induction m with
  | zero =>
    intro i hi n hn
    obtain ⟨n, rfl⟩ : ∃ n', n = n' + 1 := ⟨n - 1, by omega⟩
    exact br_t (nI_le (by omega) (by omega)) hp
  | succ m ih =>
    intro i hi n hn
    obtain ⟨n, rfl⟩ : ∃ n', n = n' + 1 := ⟨n - 1, by omega⟩
    refine br_f (nI_ge (by omega) (by omega)) ?_
    rw [nI_1]
    refine ⟨vp_in_nI (by omega) (by decide), br_f ?_ (nm_e (ih (i + 1) (by omega) n (by omega)))⟩
    rw [nI_clamp (by omega)]
    exact all i (by omega)
theorem lx_j (h4 : sn ≤ 4) {post : Int32 → Prop} {j : Nat} (hj : j < sn) (free : tk (j + 1) = 0) (all : ∀ q, q < j → tk (q + 1) ≠ 0) (hp : post (nI j)) : ∀ m i, m + i = j → ∀ n, m < n → wX_lowestFreeSlot_2 post (nI cn) (nI sn) (nI tn) (nI fc) pc (lN ep) (fun i => nI (hp_m (H 0 i))) (fun i => nI (H 1 i)) (fun i => nI (H 2 i)) (fun i => nI (H 3 i)) (fun i => nI (H 4 i)) (fun i => nI (H 5 i)) (fun i => nI (H 6 i)) (fun i => lN (H 7 i)) (fun i => nI (H 8 i)) pd pA pB (fun i => nI (rt i)) ca tk so ro se ki ko vo ng nc st n (nI i) := by
  intro m
  induction m with
  | zero =>
    intro i hi n hn
    obtain ⟨n, rfl⟩ : ∃ n', n = n' + 1 := ⟨n - 1, by omega⟩
    have e : i = j := by omega
    subst e
    refine br_f (nI_ge (by omega) (by omega)) ?_
    rw [nI_1]
    refine ⟨vp_in_nI (by omega) (by decide), br_t ?_ hp⟩
    rw [nI_clamp (by omega)]
    exact free
  | succ m ih =>
    intro i hi n hn
    obtain ⟨n, rfl⟩ : ∃ n', n = n' + 1 := ⟨n - 1, by omega⟩
    refine br_f (nI_ge (by omega) (by omega)) ?_
    rw [nI_1]
    refine ⟨vp_in_nI (by omega) (by decide), br_f ?_ (nm_e (ih (i + 1) (by omega) n (by omega)))⟩
    rw [nI_clamp (by omega)]
    exact all i (by omega)
theorem ly_a (h4 : sn ≤ 4) {post : SY → Prop} {x1 x2 x3 : Int32} : ∀ i, i ≤ sn → (∀ q, q < i → tk (q + 1) ≠ 0) → (∀ n, 0 < n → wY_resolveSnap_34 post x1 x2 (nI cn) (nI sn) (nI tn) (nI ep) tk (fun i => nI (ys i)) ca (fun i => nI (yk i)) (fun i => nI (yv i)) so ro ki ko vo ng nd se su n x3 (-1)) → ∀ n, i < n → wY_resolveSnap_34 post x1 x2 (nI cn) (nI sn) (nI tn) (nI ep) tk (fun i => nI (ys i)) ca (fun i => nI (yk i)) (fun i => nI (yv i)) so ro ki ko vo ng nd se su n x3 (xm_m i) := by
  intro i
  induction i with
  | zero => intro _ _ h n hn; exact h n hn
  | succ i ih =>
    intro hi all h n hn
    obtain ⟨n, rfl⟩ : ∃ n', n = n' + 1 := ⟨n - 1, by omega⟩
    show wY_resolveSnap_34 post x1 x2 (nI cn) (nI sn) (nI tn) (nI ep) tk (fun i => nI (ys i)) ca (fun i => nI (yk i)) (fun i => nI (yv i)) so ro ki ko vo ng nd se su (n + 1) x3 (nI i)
    refine br_f (nI_pos (by omega)) ?_
    rw [nI_1]
    refine ⟨vp_in_nI (by omega) (by decide), br_f ?_ (nm_r (xm_s i) (ih (by omega) (fun q hq => all q (by omega)) h n (by omega)))⟩
    rw [nI_clamp (by omega)]
    exact all i (by omega)
theorem ly_j (h4 : sn ≤ 4) {post : SY → Prop} {x1 x2 : Int32} {j : Nat} (free : tk (j + 1) = 0) (all : ∀ q, q < j → tk (q + 1) ≠ 0) (h : ∀ n, 0 < n → wY_resolveSnap_34 post x1 x2 (nI cn) (nI sn) (nI tn) (nI ep) tk (fun i => nI (ys i)) ca (fun i => nI (yk i)) (fun i => nI (yv i)) so ro ki ko vo ng nd se su n (nI j) (-1)) : ∀ i, i ≤ sn → j < i → ∀ x3 n, i < n → wY_resolveSnap_34 post x1 x2 (nI cn) (nI sn) (nI tn) (nI ep) tk (fun i => nI (ys i)) ca (fun i => nI (yk i)) (fun i => nI (yv i)) so ro ki ko vo ng nd se su n x3 (xm_m i) := by
  intro i
  induction i with
  | zero => intro _ hj; omega
  | succ i ih =>
    intro hi hj x3 n hn
    obtain ⟨n, rfl⟩ : ∃ n', n = n' + 1 := ⟨n - 1, by omega⟩
    show wY_resolveSnap_34 post x1 x2 (nI cn) (nI sn) (nI tn) (nI ep) tk (fun i => nI (ys i)) ca (fun i => nI (yk i)) (fun i => nI (yv i)) so ro ki ko vo ng nd se su (n + 1) x3 (nI i)
    refine br_f (nI_pos (by omega)) ?_
    rw [nI_1]
    refine ⟨vp_in_nI (by omega) (by decide), ?_⟩
    rw [nI_clamp (by omega)]
    by_cases e : i = j
    · subst e
      exact br_t free (nm_r (xm_s i) (ly_a h4 i (by omega) all h n (by omega)))
    · exact br_c (fun _ => nm_r (xm_s i) (ih (by omega) (by omega) _ n (by omega))) (fun _ => nm_r (xm_s i) (ih (by omega) (by omega) _ n (by omega)))
/-- the copy of the live row -/
theorem cp_l {row : Nat} (hr : row < 5) (r1 : 1 ≤ row) (y24 : ys 0 ≤ 24) {post : SY → Prop} {x1 x2 x3 : Int32}
    (hp : wY_resolveSnap_173 post x1 x2 x3 (nI cn) (nI sn) (nI tn) (nI (ep + 1)) tk (fun i => nI (ys i)) ca (fun i => nI ((cy_f yk (row * 24) (ys 0)) i)) (fun i => nI ((cy_f yv (row * 24) (ys 0)) i)) so ro ki ko vo ng nd se su) :
    ∀ m q, m + q = ys 0 → ∀ n, m < n → wY_resolveSnap_106 post x1 x2 x3 (nI row) (nI cn) (nI sn) (nI tn) (nI ep) n (nI q) tk (fun i => nI (ys i)) ca (fun i => nI ((cy_f yk (row * 24) q) i)) (fun i => nI ((cy_f yv (row * 24) q) i)) so ro ki ko vo ng nd se su := by
  intro m
  induction m with
  | zero =>
    intro q hi n hn
    obtain ⟨n, rfl⟩ : ∃ n', n = n' + 1 := ⟨n - 1, by omega⟩
    have e : q = ys 0 := by omega
    subst e
    exact br_t (nI_le (by omega) (by omega)) (nm_r (nI_1 ep) hp)
  | succ m ih =>
    intro q hi n hn
    obtain ⟨n, rfl⟩ : ∃ n', n = n' + 1 := ⟨n - 1, by omega⟩
    have ii : vp_in (nI q) 120 := vp_in_nI (by omega) (by decide)
    have ib : vp_in (nI (row * 24 + q)) 120 := vp_in_nI (by omega) (by decide)
    have ci : (nI q).toNatClampNeg = q := nI_clamp (by omega)
    have cb : (nI (row * 24 + q)).toNatClampNeg = row * 24 + q := nI_clamp (by omega)
    refine br_f (nI_ge (by omega) (by omega)) ⟨ii, ?_⟩
    rw [ix_a]
    refine ⟨ib, nm_r (e' := fun j => nI (cy_f yk (row * 24) (q + 1) j)) ?_ ⟨ii, ib, nm_r (e' := fun j => nI (cy_f yv (row * 24) (q + 1) j)) ?_ (nm_r (nI_1 q) (ih (q + 1) (by omega) n (by omega)))⟩⟩
    · rw [ci, cb, ← cy_s yk (by omega)]
      exact un_I _ _ _
    · rw [ci, cb, ← cy_s yv (by omega)]
      exact un_I _ _ _
/-- the relation with a snapshot more -/
theorem rl_sn (F : rl_F cn sn tn fc ep H rt tk so ki ko vo nc nd st su ys yk yv B) {j : Nat} (hj : j < sn) (free : tk (j + 1) = 0) {H' : Nat → Nat → Nat}
    (a : H' 0 = H 0 ∧ H' 1 = H 1 ∧ H' 2 = H 2 ∧ H' 3 = H 3 ∧ H' 4 = H 4 ∧ H' 5 = H 5 ∧ H' 7 = H 7 ∧ H' 8 = H 8) (o : H' 6 = un_u (H 6) (rt 0) (H 6 (rt 0) + 1)) :
    rl_F cn sn tn fc (ep + 1) H' (un_u rt (j + 1) (rt 0)) (upd tk (j + 1) 1) so ki ko vo nc nd st su (un_u ys (j + 1) (ys 0)) (cy_f yk ((j + 1) * 24) (ys 0)) (cy_f yv ((j + 1) * 24) (ys 0)) (B + 1) := by
  obtain ⟨f1, f2, f3, C, E, f6, f7, f8, f9, f10, f11, f12⟩ := F
  obtain ⟨a0, a1, a2, a3, a4, a5, a7, a8⟩ := a
  have j5 : j + 1 < 5 := by omega
  have s0 := hp_rS C hp_xz (s := 0) (by decide)
  have up1 : ∀ c, H' 6 c = H 6 c + ib_b (rt 0) c := by
    intro c
    rw [o]
    by_cases z : c = rt 0
    · rw [z, un_s, ib_y rfl]
    · rw [un_n z, ib_z (fun w => z w.symm), Nat.add_zero]
  obtain ⟨C1, N1, U1⟩ := cv_inc C s0 ⟨a0, a1, a2, a3, a4, a5, a8⟩ up1
  have rj : rt (j + 1) = 0 := f8 (j + 1) j5 free
  have hn : ∀ c, hp_n H' (un_u rt (j + 1) (rt 0)) c + ib_b 0 c = hp_n H' rt c + ib_b (rt 0) c := by
    intro c
    have h1 := sm_one (f := hp_r (un_u rt (j + 1) (rt 0)) c) (g := hp_r rt c) j5 (fun q hq hne => by
      unfold hp_r
      rw [un_n hne])
    have h2 : hp_r (un_u rt (j + 1) (rt 0)) c (j + 1) = ib_b (rt 0) c := by unfold hp_r; rw [un_s]
    have h3 : hp_r rt c (j + 1) = ib_b 0 c := by unfold hp_r; rw [rj]
    unfold hp_n
    omega
  have C2 : hp_C H' (un_u rt (j + 1) (rt 0)) fc hp_x 0 := by
    obtain ⟨c1, c2, c3, c4, c5⟩ := C1
    refine ⟨c1, c2, fun c h0 hc => ?_, fun q hq => ?_, c5⟩
    · have h1 : (H' 6 c : Int) = hp_n H' rt c + (hp_x c + ib_b (rt 0) c) := c3 c h0 hc
      have h2 := hn c
      rw [ib_z (a := 0) (fun z => h0 z.symm)] at h2
      rw [hp_x0] at h1 ⊢
      omega
    · unfold un_u
      split
      · exact c4 0 (by decide)
      · exact c4 q hq
  have old : ∀ c, hp_S H c → c ≠ 0 → H 7 c ≤ ep := fun c hc h0 => (E.1 c (hp_Su hc h0)).1
  have T := hp_CT C hp_xz
  have mm : ∀ c, mp_m H' c = mp_m H c := mp_c3 a0 a1 a2 a4 a5
  have R0 := f9 0 (by decide) f7
  refine ⟨f1, f2, f3, C2, ⟨fun c hc => ?_, fun q q0 q5 hq => ?_⟩, by omega, ?_, fun q hq hz => ?_, fun q hq hz => ?_, f10, f11, f12⟩
  · have hu : hp_u H c := ⟨hc.1, hc.2.1, fun z => hc.2.2 ((U1 c hc.1).mpr z)⟩
    have h1 := old c (hp_uS hu) hc.1
    rw [a7, a4, a5]
    refine ⟨by omega, fun _ => ⟨fun z => ?_, fun z => ?_⟩, fun z => by omega⟩
    · have := old _ (T.2.2 c (hp_uS hu)).2.1 z
      omega
    · have := old _ (T.2.2 c (hp_uS hu)).2.2.1 z
      omega
  · rw [a7]
    have h1 : hp_S H (un_u rt (j + 1) (rt 0) q) := by
      unfold un_u
      split
      · exact s0
      · exact hp_rS C hp_xz q5
    have := old _ h1 hq
    omega
  · rw [pk_un (by omega)]; exact f7
  · by_cases z : q = j + 1
    · rw [z, pk_us] at hz
      exact absurd hz (by decide)
    · rw [pk_un z] at hz
      rw [un_n z]
      exact f8 q hq hz
  · rw [mm]
    by_cases z : q = j + 1
    · subst z
      rw [un_s, un_s]
      refine ⟨R0.1, ro_y (show ro_R (mp_m H (rt 0)) yk yv 0 (ys 0) from R0.2) (fun i hi => ?_)⟩
      unfold cy_f
      rw [if_pos (by omega), if_pos (by omega), Nat.add_sub_cancel_left]
      exact ⟨rfl, rfl⟩
    · rw [pk_un z] at hz
      rw [un_n z, un_n z]
      have h1 := f9 q hq hz
      have y24 := R0.2.1
      have q24 := h1.2.1
      refine ⟨h1.1, ro_c h1.2 (fun i hi => ?_)⟩
      unfold cy_f
      rw [if_neg (by omega), if_neg (by omega)]
      exact ⟨rfl, rfl⟩
theorem sn_wp (F : rl_F cn sn tn fc ep H rt tk so ki ko vo nc nd st su ys yk yv B) {w : Nat} (hw : w < tn) (hn : nc w = nd w) (t : Int32) :
    oc_O (fun post => wpX_resolveSnapshot post ((nI cn), (nI sn), (nI tn), (nI fc), pc, (lN ep), (fun i => nI (hp_m (H 0 i))), (fun i => nI (H 1 i)), (fun i => nI (H 2 i)), (fun i => nI (H 3 i)), (fun i => nI (H 4 i)), (fun i => nI (H 5 i)), (fun i => nI (H 6 i)), (fun i => lN (H 7 i)), (fun i => nI (H 8 i)), pd, pA, pB, (fun i => nI (rt i)), ca, tk, so, ro, se, ki, ko, vo, ng, nc, st) (nI w) t) (fun post => wpY_resolveSnap post ((nI cn), (nI sn), (nI tn), (nI ep), tk, (fun i => nI (ys i)), ca, (fun i => nI (yk i)), (fun i => nI (yv i)), so, ro, ki, ko, vo, ng, nd, se, su) (nI w) t) cn sn tn pc pA pB ki ko vo (B + 1) := by
  have t4 := F.2.2.1.2
  have s4 := F.2.1.2
  have s1 := F.2.1.1
  have C := F.2.2.2.1
  have iw : vp_in (nI w) 4 := vp_in_nI (by omega) (by decide)
  have cw : (nI w).toNatClampNeg = w := nI_clamp (by omega)
  by_cases a : nc w = ca 0
  · have aX : nc (nI w).toNatClampNeg = ca 0 := by rw [cw]; exact a
    have aY : nd (nI w).toNatClampNeg = ca 0 := by rw [cw, ← hn]; exact a
    have e1 : nI sn - 1 = xm_m sn := by
      obtain ⟨q, rfl⟩ : ∃ q, sn = q + 1 := ⟨sn - 1, by omega⟩
      exact nI_pred q
    by_cases all : ∀ q, q < sn → tk (q + 1) ≠ 0
    · refine oc_t (oc_b (se_wp (pc := pc) (pd := pd) (pA := pA) (pB := pB) (ca := ca) (ro := ro) (se := se) (ng := ng) F (u := w) (by omega) (-2) t)) (fun post hp => ?_) (fun post hp => ?_)
      · unfold wpX_resolveSnapshot
        refine ⟨iw, br_t aX ?_⟩
        unfold wpX_lowestFreeSlot
        exact ⟨sn + 1, lx_n s4 all (br_f (by decide) hp) sn 0 (by omega) _ (by omega)⟩
      · unfold wpY_resolveSnap
        refine ⟨iw, br_t aY (nm_r e1 ⟨sn + 1, ly_a s4 sn (by omega) all (fun n hn => ?_) _ (by omega)⟩)⟩
        obtain ⟨n, rfl⟩ : ∃ n', n = n' + 1 := ⟨n - 1, by omega⟩
        refine br_t (by decide) (br_t (by decide) ?_)
        unfold wY_resolveSnap_173
        exact hp
    · obtain ⟨j, ⟨hj, free⟩, least⟩ := pk_least (fun q => q < sn ∧ tk (q + 1) = 0) (Classical.byContradiction (fun z => all (fun q hq y => z ⟨q, hq, y⟩)))
      have low : ∀ q, q < j → tk (q + 1) ≠ 0 := fun q hq z => least q hq ⟨by omega, z⟩
      obtain ⟨H', q⟩ : ∃ H' : Nat → Nat → Nat, H' = hp_p (H 0) (H 1) (H 2) (H 3) (H 4) (H 5) (un_u (H 6) (rt 0) (H 6 (rt 0) + 1)) (H 7) (H 8) := ⟨_, rfl⟩
      have F' := rl_sn F hj free (H' := H') (by rw [q]; exact ⟨rfl, rfl, rfl, rfl, rfl, rfl, rfl, rfl⟩) (by rw [q]; rfl)
      have r8 := C.2.2.2.1 0 (by decide)
      have i0 : vp_in (nI (rt 0)) 256 := vp_in_nI r8 (by decide)
      have c0 : (nI (rt 0)).toNatClampNeg = rt 0 := nI_clamp (by omega)
      have ij : vp_in (nI (j + 1)) 5 := vp_in_nI (by omega) (by decide)
      have cj : (nI (j + 1)).toNatClampNeg = j + 1 := nI_clamp (by omega)
      have R0 := F.2.2.2.2.2.2.2.2.1 0 (by decide) F.2.2.2.2.2.2.1
      have y24 := R0.2.1
      refine oc_t (se_wp (pc := pc) (pd := pd) (pA := pA) (pB := pB) (ca := upd ca (j + 1) (ca 0)) (ro := ro) (se := se) (ng := ng) F' (u := w) (by omega) (nI j) t) (fun post hp => ?_) (fun post hp => ?_)
      · unfold wpX_resolveSnapshot
        refine ⟨iw, br_t aX ?_⟩
        unfold wpX_lowestFreeSlot
        refine ⟨sn + 1, lx_j s4 hj free low ?_ j 0 (by omega) _ (by omega)⟩
        refine br_t (nI_pos' (by omega)) ?_
        rw [nI_1]
        have e0 : (fun i => nI (un_u rt (j + 1) (rt 0) i)) 0 = nI (rt 0) := by
          show nI (un_u rt (j + 1) (rt 0) 0) = _
          rw [un_n (by omega)]
        refine ⟨ij, nm_r (e' := upd tk (j + 1) 1) (by rw [cj]; rfl) ⟨ij, nm_r (e' := fun i => nI (un_u rt (j + 1) (rt 0) i)) (by rw [cj]; exact un_I rt (j + 1) (rt 0)) ?_⟩⟩
        rw [e0]
        refine ⟨i0, i0, nm_r (e' := fun i => nI (un_u (H 6) (rt 0) (H 6 (rt 0) + 1) i)) ?_ ⟨ij, nm_r (e' := upd ca (j + 1) (ca 0)) (by rw [cj]) (nm_r (lN_1 ep) ?_)⟩⟩
        · dsimp only
          rw [c0, nI_1]
          exact un_I _ _ _
        · rw [q] at hp
          exact hp
      · unfold wpY_resolveSnap
        refine ⟨iw, br_t aY (nm_r e1 ⟨sn + 1, ly_j s4 free low (fun n hn => ?_) sn (by omega) hj _ _ (by omega)⟩)⟩
        obtain ⟨n, rfl⟩ : ∃ n', n = n' + 1 := ⟨n - 1, by omega⟩
        refine br_t (by decide) (br_f (nI_pos (by omega)) (nm_r (nI_1 j) ⟨ij, nm_r (e' := upd tk (j + 1) 1) (by rw [cj]; rfl) ⟨ij, nm_r (e' := fun i => nI (un_u ys (j + 1) (ys 0) i)) (by rw [cj]; exact un_I ys (j + 1) (ys 0)) ⟨ij, nm_r (e' := upd ca (j + 1) (ca 0)) (by rw [cj]) ⟨ys 0 + 1, ?_⟩⟩⟩⟩))
        have y0 : un_u ys (j + 1) (ys 0) 0 = ys 0 := un_n (by omega)
        have hh := cp_l (cn := cn) (sn := sn) (tn := tn) (ep := ep) (ca := upd ca (j + 1) (ca 0)) (tk := upd tk (j + 1) 1) (so := so) (ro := ro) (se := se) (ki := ki) (ko := ko) (vo := vo) (ng := ng) (nd := nd) (su := su) (ys := un_u ys (j + 1) (ys 0)) (yk := yk) (yv := yv) (row := j + 1) (post := post) (x1 := nI w) (x2 := t) (x3 := nI j) (by omega) (by omega) (by rw [y0]; exact y24) (by
          rw [y0]
          unfold wY_resolveSnap_173
          exact hp) (ys 0) 0 (by rw [y0]; omega) (ys 0 + 1) (by omega)
        rw [cy_0, cy_0] at hh
        exact hh
  · have aX : ¬ nc (nI w).toNatClampNeg = ca 0 := by rw [cw]; exact a
    have aY : ¬ nd (nI w).toNatClampNeg = ca 0 := by rw [cw, ← hn]; exact a
    refine oc_b ⟨fc, ep, H, rt, pd, ca, tk, upd so w 1, ro, se, ng, nc, st, nd, su, ys, yk, yv, rl_so F w (by decide), fun post hp => ?_, fun post hp => ?_⟩
    · unfold wpX_resolveSnapshot
      exact ⟨iw, br_f aX ⟨iw, nm_r (e' := upd so w 1) (by rw [cw]) hp⟩⟩
    · unfold wpY_resolveSnap
      exact ⟨iw, br_f aY ⟨iw, nm_r (e' := upd so w 1) (by rw [cw]) hp⟩⟩
end
end
section
/-! step and finish in lockstep -/
section
variable {cn sn tn fc ep B : Nat} {H : Nat → Nat → Nat} {rt : Nat → Nat} {pc : Int32} {pd pA pB ca tk so ro se ki ko vo ng nc st nd su : Nat → Int32} {ys yk yv : Nat → Nat}
theorem rl_p3 (F : rl_F cn sn tn fc ep H rt tk so ki ko vo nc nd st su ys yk yv B) {t : Nat} (n0 : so t ≠ 0) (n1 : so t ≠ 1) (n4 : so t ≠ 4) : rl_F cn sn tn fc ep H rt tk (upd so t 3) ki ko vo nc nd st su ys yk yv B := by
  obtain ⟨f1, f2, f3, f4, f5, f6, f7, f8, f9, f10, f11, f12⟩ := F
  refine ⟨f1, f2, f3, f4, f5, f6, f7, f8, f9, f10, fun q hq => ?_, fun q hq => ?_⟩
  · by_cases z : q = t
    · rw [z, pk_us]
      intro _ _ y
      exact absurd rfl y
    · rw [pk_un z]; exact f11 q hq
  · by_cases z : q = t
    · rw [z]
      rw [z] at hq
      intro _ _ _
      exact f12 t hq n0 n1 n4
    · rw [pk_un z]; exact f12 q hq
/-- stage READ, all noted -/
theorem rl_p2 (F : rl_F cn sn tn fc ep H rt tk so ki ko vo nc nd st su ys yk yv B) {t : Nat} {nc' nd' st' su' : Nat → Int32} (o : ∀ q, q ≠ t → nc' q = nc q ∧ nd' q = nd q ∧ st' q = st q ∧ su' q = su q) (h4 : ki t = 4 → nc' t = nd' t) (hn : ki t ≠ 4 → st' t = su' t) :
    rl_F cn sn tn fc ep H rt tk (upd so t 2) ki ko vo nc' nd' st' su' ys yk yv B := by
  obtain ⟨f1, f2, f3, f4, f5, f6, f7, f8, f9, f10, f11, f12⟩ := F
  refine ⟨f1, f2, f3, f4, f5, f6, f7, f8, f9, f10, fun q hq => ?_, fun q hq => ?_⟩
  · by_cases z : q = t
    · rw [z]
      intro _ _ _ _
      exact hn
    · rw [pk_un z, (o q z).2.2.1, (o q z).2.2.2]; exact f11 q hq
  · by_cases z : q = t
    · rw [z]
      intro _ _ _
      exact h4
    · rw [pk_un z, (o q z).1, (o q z).2.1]; exact f12 q hq
theorem af_wp (F : rl_F cn sn tn fc ep H rt tk so ki ko vo nc nd st su ys yk yv B) {t : Nat} (ht : t < tn) (k4 : ki t = 4) (s1 : so t = 1) :
    oc_O (fun post => wpX_advanceSnap post ((nI cn), (nI sn), (nI tn), (nI fc), pc, (lN ep), (fun i => nI (hp_m (H 0 i))), (fun i => nI (H 1 i)), (fun i => nI (H 2 i)), (fun i => nI (H 3 i)), (fun i => nI (H 4 i)), (fun i => nI (H 5 i)), (fun i => nI (H 6 i)), (fun i => lN (H 7 i)), (fun i => nI (H 8 i)), pd, pA, pB, (fun i => nI (rt i)), ca, tk, so, ro, se, ki, ko, vo, ng, nc, st) (nI t)) (fun post => wpY_begin post ((nI cn), (nI sn), (nI tn), (nI ep), tk, (fun i => nI (ys i)), ca, (fun i => nI (yk i)), (fun i => nI (yv i)), so, ro, ki, ko, vo, ng, nd, se, su) (nI t)) cn sn tn pc pA pB ki ko vo B := by
  have t4 := F.2.2.1.2
  have it : vp_in (nI t) 4 := vp_in_nI (by omega) (by decide)
  have ct : (nI t).toNatClampNeg = t := nI_clamp (by omega)
  obtain ⟨⟨kk, hkk, ek⟩, _⟩ := F.2.2.2.2.2.2.2.2.2.1 t (by omega)
  have R0 := F.2.2.2.2.2.2.2.2.1 0 (by decide) F.2.2.2.2.2.2.1
  refine ⟨fc, ep, H, rt, pd, ca, tk, upd so t 2, ro, se, upd ng t (nI ep), upd nc t (ca 0), st, upd nd t (ca 0), upd su t (vp_nar .boolean 0), ys, yk, yv, rl_p2 F (fun q hq => by rw [pk_un hq, pk_un hq, pk_un hq]; exact ⟨rfl, rfl, rfl, rfl⟩) (fun _ => by rw [pk_us, pk_us]) (fun z => absurd k4 z), fun post hp => ?_, fun post hp => ?_⟩
  · unfold wpX_advanceSnap
    dsimp only
    rw [ct, lN_i]
    exact ⟨it, br_t s1 ⟨it, nm_e ⟨it, nm_e ⟨it, nm_e hp⟩⟩⟩⟩
  · unfold wpY_begin
    dsimp only
    rw [ct]
    refine ⟨it, nm_r (e' := 4) k4 ⟨it, ?_⟩⟩
    rw [ek]
    refine yl_wp (s := 0) (by decide) R0.2 (by omega) (br_f (by decide) (br_f (by decide) ?_))
    unfold wY_begin_33
    refine br_f (by decide) ?_
    unfold wY_begin_51
    rw [ct]
    exact ⟨it, nm_e ⟨it, nm_e ⟨it, nm_e ⟨it, nm_e hp⟩⟩⟩⟩
theorem rk_wp (F : rl_F cn sn tn fc ep H rt tk so ki ko vo nc nd st su ys yk yv B) {t : Nat} (ht : t < tn) (k4 : ¬ ki t = 4) :
    oc_O (fun post => wpX_readKey post ((nI cn), (nI sn), (nI tn), (nI fc), pc, (lN ep), (fun i => nI (hp_m (H 0 i))), (fun i => nI (H 1 i)), (fun i => nI (H 2 i)), (fun i => nI (H 3 i)), (fun i => nI (H 4 i)), (fun i => nI (H 5 i)), (fun i => nI (H 6 i)), (fun i => lN (H 7 i)), (fun i => nI (H 8 i)), pd, pA, pB, (fun i => nI (rt i)), ca, tk, so, ro, se, ki, ko, vo, ng, nc, st) (nI t)) (fun post => wpY_begin post ((nI cn), (nI sn), (nI tn), (nI ep), tk, (fun i => nI (ys i)), ca, (fun i => nI (yk i)), (fun i => nI (yv i)), so, ro, ki, ko, vo, ng, nd, se, su) (nI t)) cn sn tn pc pA pB ki ko vo B := by
  have t4 := F.2.2.1.2
  have it : vp_in (nI t) 4 := vp_in_nI (by omega) (by decide)
  have ct : (nI t).toNatClampNeg = t := nI_clamp (by omega)
  obtain ⟨⟨kk, hkk, ek⟩, _⟩ := F.2.2.2.2.2.2.2.2.2.1 t (by omega)
  have R0 := F.2.2.2.2.2.2.2.2.1 0 (by decide) F.2.2.2.2.2.2.1
  have C := F.2.2.2.1
  have T := hp_CT C hp_xz
  have s0 := hp_rS C hp_xz (s := 0) (by decide)
  generalize hold : lk_v (mp_m H (rt 0) kk) = old
  have preX : ∀ post : SX → Prop, ((ki t = 0 → wX_readKey_48 post (nI t) old (nI cn) (nI sn) (nI tn) (nI fc) pc (lN ep) (fun i => nI (hp_m (H 0 i))) (fun i => nI (H 1 i)) (fun i => nI (H 2 i)) (fun i => nI (H 3 i)) (fun i => nI (H 4 i)) (fun i => nI (H 5 i)) (fun i => nI (H 6 i)) (fun i => lN (H 7 i)) (fun i => nI (H 8 i)) pd pA pB (fun i => nI (rt i)) ca tk so ro se ki ko vo ng nc st) ∧ (¬ ki t = 0 → ((ki t = 2 → ((old = -1 → wX_readKey_38 post (nI t) (ki t) old (nI cn) (nI sn) (nI tn) (nI fc) pc (lN ep) (fun i => nI (hp_m (H 0 i))) (fun i => nI (H 1 i)) (fun i => nI (H 2 i)) (fun i => nI (H 3 i)) (fun i => nI (H 4 i)) (fun i => nI (H 5 i)) (fun i => nI (H 6 i)) (fun i => lN (H 7 i)) (fun i => nI (H 8 i)) pd pA pB (fun i => nI (rt i)) ca tk so ro se ki ko vo ng nc st) ∧ (¬ old = -1 → wX_readKey_48 post (nI t) old (nI cn) (nI sn) (nI tn) (nI fc) pc (lN ep) (fun i => nI (hp_m (H 0 i))) (fun i => nI (H 1 i)) (fun i => nI (H 2 i)) (fun i => nI (H 3 i)) (fun i => nI (H 4 i)) (fun i => nI (H 5 i)) (fun i => nI (H 6 i)) (fun i => lN (H 7 i)) (fun i => nI (H 8 i)) pd pA pB (fun i => nI (rt i)) ca tk so ro se ki ko vo ng nc st))) ∧ (¬ ki t = 2 → wX_readKey_38 post (nI t) (ki t) old (nI cn) (nI sn) (nI tn) (nI fc) pc (lN ep) (fun i => nI (hp_m (H 0 i))) (fun i => nI (H 1 i)) (fun i => nI (H 2 i)) (fun i => nI (H 3 i)) (fun i => nI (H 4 i)) (fun i => nI (H 5 i)) (fun i => nI (H 6 i)) (fun i => lN (H 7 i)) (fun i => nI (H 8 i)) pd pA pB (fun i => nI (rt i)) ca tk so ro se ki ko vo ng nc st)))) → wpX_readKey post ((nI cn), (nI sn), (nI tn), (nI fc), pc, (lN ep), (fun i => nI (hp_m (H 0 i))), (fun i => nI (H 1 i)), (fun i => nI (H 2 i)), (fun i => nI (H 3 i)), (fun i => nI (H 4 i)), (fun i => nI (H 5 i)), (fun i => nI (H 6 i)), (fun i => lN (H 7 i)), (fun i => nI (H 8 i)), pd, pA, pB, (fun i => nI (rt i)), ca, tk, so, ro, se, ki, ko, vo, ng, nc, st) (nI t) := by
    intro post h
    unfold wpX_readKey
    dsimp only
    rw [ct, ek]
    refine ⟨it, nm_e ⟨it, lk_wp T s0 (by omega) ?_⟩⟩
    rw [hold]
    exact h
  have preY : ∀ post : SY → Prop, ((ki t = 0 → wY_begin_43 post (nI t) old (nI cn) (nI sn) (nI tn) (nI ep) tk (fun i => nI (ys i)) ca (fun i => nI (yk i)) (fun i => nI (yv i)) so ro ki ko vo ng nd se su) ∧ (¬ ki t = 0 → ((ki t = 2 → ((old = -1 → wY_begin_33 post (nI t) (ki t) old (nI cn) (nI sn) (nI tn) (nI ep) tk (fun i => nI (ys i)) ca (fun i => nI (yk i)) (fun i => nI (yv i)) so ro ki ko vo ng nd se su) ∧ (¬ old = -1 → wY_begin_43 post (nI t) old (nI cn) (nI sn) (nI tn) (nI ep) tk (fun i => nI (ys i)) ca (fun i => nI (yk i)) (fun i => nI (yv i)) so ro ki ko vo ng nd se su))) ∧ (¬ ki t = 2 → wY_begin_33 post (nI t) (ki t) old (nI cn) (nI sn) (nI tn) (nI ep) tk (fun i => nI (ys i)) ca (fun i => nI (yk i)) (fun i => nI (yv i)) so ro ki ko vo ng nd se su)))) → wpY_begin post ((nI cn), (nI sn), (nI tn), (nI ep), tk, (fun i => nI (ys i)), ca, (fun i => nI (yk i)), (fun i => nI (yv i)), so, ro, ki, ko, vo, ng, nd, se, su) (nI t) := by
    intro post h
    unfold wpY_begin
    dsimp only
    rw [ct, ek]
    refine ⟨it, nm_e ⟨it, yl_wp (s := 0) (by decide) R0.2 (by omega) ?_⟩⟩
    rw [hold]
    exact h
  have o48 : oc_O (fun post => wX_readKey_48 post (nI t) old (nI cn) (nI sn) (nI tn) (nI fc) pc (lN ep) (fun i => nI (hp_m (H 0 i))) (fun i => nI (H 1 i)) (fun i => nI (H 2 i)) (fun i => nI (H 3 i)) (fun i => nI (H 4 i)) (fun i => nI (H 5 i)) (fun i => nI (H 6 i)) (fun i => lN (H 7 i)) (fun i => nI (H 8 i)) pd pA pB (fun i => nI (rt i)) ca tk so ro se ki ko vo ng nc st) (fun post => wY_begin_43 post (nI t) old (nI cn) (nI sn) (nI tn) (nI ep) tk (fun i => nI (ys i)) ca (fun i => nI (yk i)) (fun i => nI (yv i)) so ro ki ko vo ng nd se su) cn sn tn pc pA pB ki ko vo B := by
    refine oc_t (se_wp (pc := pc) (pd := pd) (pA := pA) (pB := pB) (ca := ca) (ro := ro) (se := se) (ng := ng) F (u := t) (by omega) old (nI t)) (fun post hp => ?_) (fun post hp => ?_)
    · unfold wX_readKey_48
      exact hp
    · unfold wY_begin_43
      exact hp
  have o56 : oc_O (fun post => wX_readKey_56 post (nI t) (nI cn) (nI sn) (nI tn) (nI fc) pc (lN ep) (fun i => nI (hp_m (H 0 i))) (fun i => nI (H 1 i)) (fun i => nI (H 2 i)) (fun i => nI (H 3 i)) (fun i => nI (H 4 i)) (fun i => nI (H 5 i)) (fun i => nI (H 6 i)) (fun i => lN (H 7 i)) (fun i => nI (H 8 i)) pd pA pB (fun i => nI (rt i)) ca tk so ro se ki ko vo ng nc st) (fun post => wY_begin_51 post (nI t) (nI cn) (nI sn) (nI tn) (nI ep) tk (fun i => nI (ys i)) ca (fun i => nI (yk i)) (fun i => nI (yv i)) so ro ki ko vo ng nd se su) cn sn tn pc pA pB ki ko vo B := by
    refine ⟨fc, ep, H, rt, pd, ca, tk, upd so t 2, ro, se, upd ng t (nI ep), nc, upd st t (vp_nar .boolean 0), upd nd t (ca 0), upd su t (vp_nar .boolean 0), ys, yk, yv, rl_p2 F (fun q hq => by rw [pk_un hq, pk_un hq, pk_un hq]; exact ⟨rfl, rfl, rfl, rfl⟩) (fun z => absurd z k4) (fun _ => by rw [pk_us, pk_us]), fun post hp => ?_, fun post hp => ?_⟩
    · unfold wX_readKey_56
      rw [ct, lN_i]
      exact ⟨it, nm_e ⟨it, nm_e ⟨it, nm_e hp⟩⟩⟩
    · unfold wY_begin_51
      rw [ct]
      exact ⟨it, nm_e ⟨it, nm_e ⟨it, nm_e ⟨it, nm_e hp⟩⟩⟩⟩
  by_cases k0 : ki t = 0
  · exact oc_u o48 (fun post hp => preX post (br_t k0 hp)) (fun post hp => preY post (br_t k0 hp))
  · by_cases k2 : ki t = 2
    · have k3 : ¬ ki t = 3 := by rw [k2]; decide
      by_cases ol : old = -1
      · refine oc_u o56 (fun post hp => preX post (br_f k0 (br_t k2 (br_t ol ?_)))) (fun post hp => preY post (br_f k0 (br_t k2 (br_t ol ?_))))
        · unfold wX_readKey_38
          exact br_f k3 hp
        · unfold wY_begin_33
          exact br_f k3 hp
      · exact oc_u o48 (fun post hp => preX post (br_f k0 (br_t k2 (br_f ol hp)))) (fun post hp => preY post (br_f k0 (br_t k2 (br_f ol hp))))
    · by_cases k3 : ki t = 3
      · by_cases ol : old = -1
        · refine oc_u o48 (fun post hp => preX post (br_f k0 (br_f k2 ?_))) (fun post hp => preY post (br_f k0 (br_f k2 ?_)))
          · unfold wX_readKey_38
            exact br_t k3 (br_t ol hp)
          · unfold wY_begin_33
            exact br_t k3 (br_t ol hp)
        · refine oc_u o56 (fun post hp => preX post (br_f k0 (br_f k2 ?_))) (fun post hp => preY post (br_f k0 (br_f k2 ?_)))
          · unfold wX_readKey_38
            exact br_t k3 (br_f ol hp)
          · unfold wY_begin_33
            exact br_t k3 (br_f ol hp)
      · refine oc_u o56 (fun post hp => preX post (br_f k0 (br_f k2 ?_))) (fun post hp => preY post (br_f k0 (br_f k2 ?_)))
        · unfold wX_readKey_38
          exact br_f k3 hp
        · unfold wY_begin_33
          exact br_f k3 hp
/-- one outcome of a step -/
def sp_O (X : SX) (Y : SY) (p : Int32) (B : Nat) : Prop :=
  ∃ (r : Int32) (u' : SX) (v' : SY), rl_R B u' v' ∧ (∀ post : Int32 → SX → Prop, post r u' → wpX_step post X p) ∧ (∀ post : Int32 → SY → Prop, post r v' → wpY_step post Y p)
theorem sp_o {X : SX} {Y : SY} {p : Int32} {WX : (SX → Prop) → Prop} {WY : (SY → Prop) → Prop} (ip : vp_in p 4) (h : oc_O WX WY cn sn tn pc pA pB ki ko vo B)
    (hX : ∀ post : Int32 → SX → Prop, WX (fun u => match u with | (f0, f1, f2, f3, f4, f5, b0, b1, b2, b3, b4, b5, b6, b7, b8, b9, b10, b11, b12, b13, b14, b15, b16, b17, b18, b19, b20, b21, b22, b23) => vp_in p 4 ∧ post (b15 p.toNatClampNeg) (f0, f1, f2, f3, f4, f5, b0, b1, b2, b3, b4, b5, b6, b7, b8, b9, b10, b11, b12, b13, b14, b15, b16, b17, b18, b19, b20, b21, b22, b23)) → wpX_step post X p)
    (hY : ∀ post : Int32 → SY → Prop, WY (fun u => match u with | (f0, f1, f2, f3, b0, b1, b2, b3, b4, b5, b6, b7, b8, b9, b10, b11, b12, b13) => vp_in p 4 ∧ post (b5 p.toNatClampNeg) (f0, f1, f2, f3, b0, b1, b2, b3, b4, b5, b6, b7, b8, b9, b10, b11, b12, b13)) → wpY_step post Y p) : sp_O X Y p B := by
  obtain ⟨fc, ep, H, rt, pd, ca, tk, so, ro, se, ng, nc, st, nd, su, ys, yk, yv, F, wX, wY⟩ := h
  exact ⟨so p.toNatClampNeg, _, _, rl_in (pc := pc) (pd := pd) (pA := pA) (pB := pB) (ca := ca) (ro := ro) (se := se) (ng := ng) F, fun post hp => hX post (wX _ ⟨ip, hp⟩), fun post hp => hY post (wY _ ⟨ip, hp⟩)⟩
theorem st_wp (F : rl_F cn sn tn fc ep H rt tk so ki ko vo nc nd st su ys yk yv B) (hB : B < 2 ^ 31) (p : Int32) : sp_O ((nI cn), (nI sn), (nI tn), (nI fc), pc, (lN ep), (fun i => nI (hp_m (H 0 i))), (fun i => nI (H 1 i)), (fun i => nI (H 2 i)), (fun i => nI (H 3 i)), (fun i => nI (H 4 i)), (fun i => nI (H 5 i)), (fun i => nI (H 6 i)), (fun i => lN (H 7 i)), (fun i => nI (H 8 i)), pd, pA, pB, (fun i => nI (rt i)), ca, tk, so, ro, se, ki, ko, vo, ng, nc, st) ((nI cn), (nI sn), (nI tn), (nI ep), tk, (fun i => nI (ys i)), ca, (fun i => nI (yk i)), (fun i => nI (yv i)), so, ro, ki, ko, vo, ng, nd, se, su) p (B + 1) := by
  have t4 := F.2.2.1.2
  have f11 := F.2.2.2.2.2.2.2.2.2.2.1
  have f12 := F.2.2.2.2.2.2.2.2.2.2.2
  rcases iy_wp (pc := pc) (pd := pd) (pA := pA) (pB := pB) (ca := ca) (tk := tk) (so := so) (ro := ro) (se := se) (ki := ki) (ko := ko) (vo := vo) (ng := ng) (nc := nc) (st := st) (nd := nd) (su := su) (H := H) (rt := rt) (ys := ys) (yk := yk) (yv := yv) (cn := cn) (sn := sn) (fc := fc) (ep := ep) p t4 with ⟨t, ht, rfl, s0, hbX, hbY⟩ | ⟨hbX, hbY⟩
  · have it : vp_in (nI t) 4 := vp_in_nI (by omega) (by decide)
    have ct : (nI t).toNatClampNeg = t := nI_clamp (by omega)
    obtain ⟨r1, hr1, hpX, hpY⟩ := ps_wp (cn := cn) (sn := sn) (fc := fc) (ep := ep) (H := H) (rt := rt) (pc := pc) (pd := pd) (pA := pA) (pB := pB) (ca := ca) (tk := tk) (so := so) (ro := ro) (se := se) (ki := ki) (ko := ko) (vo := vo) (ng := ng) (nc := nc) (st := st) (nd := nd) (su := su) (ys := ys) (yk := yk) (yv := yv) t4
    obtain ⟨r2, hr2, hvX, hvY⟩ := rv_wp (cn := cn) (sn := sn) (fc := fc) (ep := ep) (H := H) (rt := rt) (pc := pc) (pd := pd) (pA := pA) (pB := pB) (ca := ca) (tk := tk) (so := so) (ro := ro) (se := se) (ki := ki) (ko := ko) (vo := vo) (ng := ng) (nc := nc) (st := st) (nd := nd) (su := su) (ys := ys) (yk := yk) (yv := yv) t4 ht
    have sA : so (nI t).toNatClampNeg = so t := by rw [ct]
    have kA : ki (nI t).toNatClampNeg = ki t := by rw [ct]
    by_cases s4 : so t = 4
    · have s4' := sA.trans s4
      refine sp_o it (oc_b (se_wp (pc := pc) (pd := pd) (pA := pA) (pB := pB) (ca := ca) (ro := ro) (se := se) (ng := ng) F (u := t) (by omega) (se (nI t).toNatClampNeg) (nI t))) (fun post hp => ?_) (fun post hp => ?_)
      · unfold wpX_step
        exact hbX _ (br_f (by decide) ⟨it, br_t s4' ⟨it, hp⟩⟩)
      · unfold wpY_step
        refine hbY _ (br_f (by decide) ⟨it, nm_e ⟨it, ?_⟩⟩)
        refine br_c (fun _ => ?_) (fun _ => ?_)
        · unfold wY_step_33
          exact hpY _ (hvY _ (br_t s4' ⟨it, hp⟩))
        · unfold wY_step_33
          exact hpY _ (hvY _ (br_t s4' ⟨it, hp⟩))
    · have s4' : ¬ so (nI t).toNatClampNeg = 4 := fun z => s4 (sA.symm.trans z)
      by_cases s3 : so t = 3
      · have s3' := sA.trans s3
        by_cases k4 : ki t = 4
        · have k4' := kA.trans k4
          refine sp_o it (sn_wp (pc := pc) (pd := pd) (pA := pA) (pB := pB) (ca := ca) (ro := ro) (se := se) (ng := ng) F ht (f12 t (by omega) s0 (by rw [s3]; decide) s4 k4) (nI t)) (fun post hp => ?_) (fun post hp => ?_)
          · unfold wpX_step
            refine hbX _ (br_f (by decide) ⟨it, br_f s4' ⟨it, br_t s3' ?_⟩⟩)
            unfold wpX_stepPosted
            exact ⟨it, br_t k4' hp⟩
          · unfold wpY_step
            refine hbY _ (br_f (by decide) ⟨it, nm_e ⟨it, br_t k4' ?_⟩⟩)
            unfold wY_step_33
            exact hpY _ (hvY _ (br_f s4' (br_t s3' (br_f (by decide) hp))))
        · have k4' : ¬ ki (nI t).toNatClampNeg = 4 := fun z => k4 (kA.symm.trans z)
          refine sp_o it (oc_b (wr_wp (pc := pc) (pd := pd) (pA := pA) (pB := pB) (ca := ca) (ro := ro) (se := se) (ng := ng) F hB ht (nI t))) (fun post hp => ?_) (fun post hp => ?_)
          · unfold wpX_step
            refine hbX _ (br_f (by decide) ⟨it, br_f s4' ⟨it, br_t s3' ?_⟩⟩)
            unfold wpX_stepPosted
            exact ⟨it, br_f k4' hp⟩
          · unfold wpY_step
            refine hbY _ (br_f (by decide) ⟨it, nm_e ⟨it, br_f k4' ?_⟩⟩)
            unfold wY_step_33
            refine hpY _ (hvY _ (br_f s4' (br_t s3' (br_t rfl ?_))))
            unfold wY_step_85
            exact br_t s3' hp
      · have s3' : ¬ so (nI t).toNatClampNeg = 3 := fun z => s3 (sA.symm.trans z)
        -- help a posted snapshot
        by_cases help : ¬ r1 = -1 ∧ (ki t = 4 ∨ so t = 1)
        · rcases hr1 with hr1 | ⟨w, hw, e, w3, w4⟩
          · exact absurd hr1 help.1
          · have nn : ¬ r1 < 0 := by rw [e]; exact nI_pos (by omega)
            subst e
            refine sp_o it (sn_wp (pc := pc) (pd := pd) (pA := pA) (pB := pB) (ca := ca) (ro := ro) (se := se) (ng := ng) F hw (f12 w (by omega) (by rw [w3]; decide) (by rw [w3]; decide) (by rw [w3]; decide) w4) (nI t)) (fun post hp => ?_) (fun post hp => ?_)
            · unfold wpX_step
              refine hbX _ (br_f (by decide) ⟨it, br_f s4' ⟨it, br_f s3' ?_⟩⟩)
              unfold wpX_stepUnposted
              refine hpX _ (br_f nn ⟨it, ?_⟩)
              by_cases k4 : ki t = 4
              · refine br_t (kA.trans k4) ?_
                unfold wX_stepUnposted_29
                exact hp
              · refine br_f (fun z => k4 (kA.symm.trans z)) ⟨it, br_t ?_ ?_⟩
                · rcases help.2 with z | z
                  · exact absurd z k4
                  · exact sA.trans z
                · unfold wX_stepUnposted_29
                  exact hp
            · unfold wpY_step
              refine hbY _ (br_f (by decide) ⟨it, nm_e ⟨it, ?_⟩⟩)
              by_cases k4 : ki t = 4
              · refine br_t (kA.trans k4) ?_
                unfold wY_step_33
                refine hpY _ (hvY _ (br_f s4' (br_f s3' ?_)))
                unfold wY_step_85
                refine br_f s3' (br_f nn (br_f (by decide) ?_))
                unfold wY_step_113
                exact hp
              · refine br_f (fun z => k4 (kA.symm.trans z)) ?_
                unfold wY_step_33
                refine hpY _ (hvY _ (br_f s4' (br_f s3' ?_)))
                unfold wY_step_85
                refine br_f s3' (br_f nn (br_t rfl (br_t ?_ ?_)))
                · rcases help.2 with z | z
                  · exact absurd z k4
                  · exact sA.trans z
                · unfold wY_step_113
                  exact hp
        · have neg : r1 = -1 ∨ (¬ ki t = 4 ∧ ¬ so t = 1) := by
            by_cases z : r1 = -1
            · exact Or.inl z
            · exact Or.inr ⟨fun y => help ⟨z, Or.inl y⟩, fun y => help ⟨z, Or.inr y⟩⟩
          have m1 : (-1 : Int32) < 0 := by decide
          have preX : ∀ post : Int32 → SX → Prop, wX_stepUnposted_36 (fun u => match u with | (f0, f1, f2, f3, f4, f5, b0, b1, b2, b3, b4, b5, b6, b7, b8, b9, b10, b11, b12, b13, b14, b15, b16, b17, b18, b19, b20, b21, b22, b23) => vp_in (nI t) 4 ∧ post (b15 (nI t).toNatClampNeg) (f0, f1, f2, f3, f4, f5, b0, b1, b2, b3, b4, b5, b6, b7, b8, b9, b10, b11, b12, b13, b14, b15, b16, b17, b18, b19, b20, b21, b22, b23)) (nI t) (nI cn) (nI sn) (nI tn) (nI fc) pc (lN ep) (fun i => nI (hp_m (H 0 i))) (fun i => nI (H 1 i)) (fun i => nI (H 2 i)) (fun i => nI (H 3 i)) (fun i => nI (H 4 i)) (fun i => nI (H 5 i)) (fun i => nI (H 6 i)) (fun i => lN (H 7 i)) (fun i => nI (H 8 i)) pd pA pB (fun i => nI (rt i)) ca tk so ro se ki ko vo ng nc st → wpX_step post ((nI cn), (nI sn), (nI tn), (nI fc), pc, (lN ep), (fun i => nI (hp_m (H 0 i))), (fun i => nI (H 1 i)), (fun i => nI (H 2 i)), (fun i => nI (H 3 i)), (fun i => nI (H 4 i)), (fun i => nI (H 5 i)), (fun i => nI (H 6 i)), (fun i => lN (H 7 i)), (fun i => nI (H 8 i)), pd, pA, pB, (fun i => nI (rt i)), ca, tk, so, ro, se, ki, ko, vo, ng, nc, st) (nI t) := by
            intro post h
            unfold wpX_step
            refine hbX _ (br_f (by decide) ⟨it, br_f s4' ⟨it, br_f s3' ?_⟩⟩)
            unfold wpX_stepUnposted
            refine hpX _ ?_
            rcases neg with z | ⟨z1, z2⟩
            · exact br_t (by rw [z]; exact m1) h
            · exact br_c (fun _ => h) (fun _ => ⟨it, br_f (fun z => z1 (kA.symm.trans z)) ⟨it, br_f (fun z => z2 (sA.symm.trans z)) h⟩⟩)
          have preY : ∀ (post : Int32 → SY → Prop) (z0 : Int32), ((ki t = 4 ∧ z0 = 1) ∨ (¬ ki t = 4 ∧ z0 = 0)) → wY_step_123 post (nI t) (so (nI t).toNatClampNeg) z0 r2 (nI cn) (nI sn) (nI tn) (nI ep) tk (fun i => nI (ys i)) ca (fun i => nI (yk i)) (fun i => nI (yv i)) so ro ki ko vo ng nd se su → wpY_step post ((nI cn), (nI sn), (nI tn), (nI ep), tk, (fun i => nI (ys i)), ca, (fun i => nI (yk i)), (fun i => nI (yv i)), so, ro, ki, ko, vo, ng, nd, se, su) (nI t) := by
            intro post z0 hz h
            have h85 : wY_step_85 post (nI t) (so (nI t).toNatClampNeg) z0 r1 r2 (nI cn) (nI sn) (nI tn) (nI ep) tk (fun i => nI (ys i)) ca (fun i => nI (yk i)) (fun i => nI (yv i)) so ro ki ko vo ng nd se su := by
              unfold wY_step_85
              refine br_f s3' ?_
              rcases neg with z | ⟨z1, z2⟩
              · exact br_t (by rw [z]; exact m1) h
              · refine br_c (fun _ => h) (fun _ => br_t ?_ (br_f (fun z => z2 (sA.symm.trans z)) h))
                rcases hz with y | y
                · exact absurd y.1 z1
                · exact y.2
            unfold wpY_step
            refine hbY _ (br_f (by decide) ⟨it, nm_e ⟨it, ?_⟩⟩)
            rcases hz with ⟨y, e⟩ | ⟨y, e⟩
            · subst e
              refine br_t (kA.trans y) ?_
              unfold wY_step_33
              exact hpY _ (hvY _ (br_f s4' (br_f s3' h85)))
            · subst e
              refine br_f (fun z => y (kA.symm.trans z)) ?_
              unfold wY_step_33
              exact hpY _ (hvY _ (br_f s4' (br_f s3' h85)))
          by_cases k4 : ki t = 4
          · have k4' := kA.trans k4
            have preY2 : ∀ post : Int32 → SY → Prop, wY_step_142 post (nI t) (so (nI t).toNatClampNeg) 1 (nI cn) (nI sn) (nI tn) (nI ep) tk (fun i => nI (ys i)) ca (fun i => nI (yk i)) (fun i => nI (yv i)) so ro ki ko vo ng nd se su → wpY_step post ((nI cn), (nI sn), (nI tn), (nI ep), tk, (fun i => nI (ys i)), ca, (fun i => nI (yk i)), (fun i => nI (yv i)), so, ro, ki, ko, vo, ng, nd, se, su) (nI t) := by
              intro post h
              refine preY post 1 (Or.inl ⟨k4, rfl⟩) ?_
              unfold wY_step_123
              exact br_c (fun _ => h) (fun _ => br_f (by decide) h)
            by_cases s1 : so t = 1
            · refine sp_o it (oc_b (af_wp (pc := pc) (pd := pd) (pA := pA) (pB := pB) (ca := ca) (ro := ro) (se := se) (ng := ng) F ht k4 s1)) (fun post hp => preX post ?_) (fun post hp => preY2 post ?_)
              · unfold wX_stepUnposted_36
                exact ⟨it, br_t k4' hp⟩
              · unfold wY_step_142
                exact br_t (sA.trans s1) hp
            · have s1' : ¬ so (nI t).toNatClampNeg = 1 := fun z => s1 (sA.symm.trans z)
              by_cases g : ng (nI t).toNatClampNeg = nI ep
              · have gX : ng (nI t).toNatClampNeg = (lN ep).toInt32 := by rw [lN_i]; exact g
                refine sp_o it (WX := fun P => P ((nI cn), (nI sn), (nI tn), (nI fc), pc, (lN ep), (fun i => nI (hp_m (H 0 i))), (fun i => nI (H 1 i)), (fun i => nI (H 2 i)), (fun i => nI (H 3 i)), (fun i => nI (H 4 i)), (fun i => nI (H 5 i)), (fun i => nI (H 6 i)), (fun i => lN (H 7 i)), (fun i => nI (H 8 i)), pd, pA, pB, (fun i => nI (rt i)), ca, tk, (upd so (nI t).toNatClampNeg 3), ro, se, ki, ko, vo, ng, nc, st)) (WY := fun P => P ((nI cn), (nI sn), (nI tn), (nI ep), tk, (fun i => nI (ys i)), ca, (fun i => nI (yk i)), (fun i => nI (yv i)), (upd so (nI t).toNatClampNeg 3), ro, ki, ko, vo, ng, nd, se, su)) (oc_b ⟨fc, ep, H, rt, pd, ca, tk, upd so (nI t).toNatClampNeg 3, ro, se, ng, nc, st, nd, su, ys, yk, yv, by rw [ct]; exact rl_p3 F s0 s1 s4, fun post hp => hp, fun post hp => hp⟩) (fun post hp => preX post ?_) (fun post hp => preY2 post ?_)
                · unfold wX_stepUnposted_36
                  refine ⟨it, br_t k4' ?_⟩
                  unfold wpX_advanceSnap
                  exact ⟨it, br_f s1' ⟨it, br_t gX ⟨it, nm_e hp⟩⟩⟩
                · unfold wY_step_142
                  refine br_f s1' (br_f (by decide) ⟨it, br_t g ?_⟩)
                  unfold wY_step_194
                  exact ⟨it, nm_e hp⟩
              · have gX : ¬ ng (nI t).toNatClampNeg = (lN ep).toInt32 := by rw [lN_i]; exact g
                refine sp_o it (WX := fun P => P ((nI cn), (nI sn), (nI tn), (nI fc), pc, (lN ep), (fun i => nI (hp_m (H 0 i))), (fun i => nI (H 1 i)), (fun i => nI (H 2 i)), (fun i => nI (H 3 i)), (fun i => nI (H 4 i)), (fun i => nI (H 5 i)), (fun i => nI (H 6 i)), (fun i => lN (H 7 i)), (fun i => nI (H 8 i)), pd, pA, pB, (fun i => nI (rt i)), ca, tk, (upd so (nI t).toNatClampNeg 1), ro, se, ki, ko, vo, ng, nc, st)) (WY := fun P => P ((nI cn), (nI sn), (nI tn), (nI ep), tk, (fun i => nI (ys i)), ca, (fun i => nI (yk i)), (fun i => nI (yv i)), (upd so (nI t).toNatClampNeg 1), ro, ki, ko, vo, ng, nd, se, su)) (oc_b ⟨fc, ep, H, rt, pd, ca, tk, upd so (nI t).toNatClampNeg 1, ro, se, ng, nc, st, nd, su, ys, yk, yv, rl_so F _ (by decide), fun post hp => hp, fun post hp => hp⟩) (fun post hp => preX post ?_) (fun post hp => preY2 post ?_)
                · unfold wX_stepUnposted_36
                  refine ⟨it, br_t k4' ?_⟩
                  unfold wpX_advanceSnap
                  exact ⟨it, br_f s1' ⟨it, br_f gX ⟨it, nm_e hp⟩⟩⟩
                · unfold wY_step_142
                  refine br_f s1' (br_f (by decide) ⟨it, br_f g ?_⟩)
                  unfold wY_step_184
                  exact ⟨it, nm_e hp⟩
          · have k4' : ¬ ki (nI t).toNatClampNeg = 4 := fun z => k4 (kA.symm.trans z)
            have hvX' := hvX s3
            have koA : ko (nI t).toNatClampNeg = ko t := by rw [ct]
            rcases hr2 with hr2 | ⟨w, hw, e⟩
            · have preY2 : ∀ post : Int32 → SY → Prop, wY_step_142 post (nI t) (so (nI t).toNatClampNeg) 0 (nI cn) (nI sn) (nI tn) (nI ep) tk (fun i => nI (ys i)) ca (fun i => nI (yk i)) (fun i => nI (yv i)) so ro ki ko vo ng nd se su → wpY_step post ((nI cn), (nI sn), (nI tn), (nI ep), tk, (fun i => nI (ys i)), ca, (fun i => nI (yk i)), (fun i => nI (yv i)), so, ro, ki, ko, vo, ng, nd, se, su) (nI t) := by
                intro post h
                refine preY post 0 (Or.inr ⟨k4, rfl⟩) ?_
                unfold wY_step_123
                exact br_t (by rw [hr2]; exact m1) h
              by_cases s1 : so t = 1
              · refine sp_o it (oc_b (rk_wp (pc := pc) (pd := pd) (pA := pA) (pB := pB) (ca := ca) (ro := ro) (se := se) (ng := ng) F ht k4)) (fun post hp => preX post ?_) (fun post hp => preY2 post ?_)
                · unfold wX_stepUnposted_36
                  refine ⟨it, br_f k4' ⟨it, ?_⟩⟩
                  rw [koA]
                  exact hvX' _ (br_t (by rw [hr2]; exact m1) ⟨it, br_t (sA.trans s1) hp⟩)
                · unfold wY_step_142
                  exact br_t (sA.trans s1) hp
              · have s1' : ¬ so (nI t).toNatClampNeg = 1 := fun z => s1 (sA.symm.trans z)
                have ag := f11 t (by omega) s0 s1 s3 s4 k4
                have agA : st (nI t).toNatClampNeg = su (nI t).toNatClampNeg := by rw [ct]; exact ag
                by_cases b : st (nI t).toNatClampNeg = 0
                · refine sp_o it (WX := fun P => P ((nI cn), (nI sn), (nI tn), (nI fc), pc, (lN ep), (fun i => nI (hp_m (H 0 i))), (fun i => nI (H 1 i)), (fun i => nI (H 2 i)), (fun i => nI (H 3 i)), (fun i => nI (H 4 i)), (fun i => nI (H 5 i)), (fun i => nI (H 6 i)), (fun i => lN (H 7 i)), (fun i => nI (H 8 i)), pd, pA, pB, (fun i => nI (rt i)), ca, tk, (upd so (nI t).toNatClampNeg 3), ro, se, ki, ko, vo, ng, nc, st)) (WY := fun P => P ((nI cn), (nI sn), (nI tn), (nI ep), tk, (fun i => nI (ys i)), ca, (fun i => nI (yk i)), (fun i => nI (yv i)), (upd so (nI t).toNatClampNeg 3), ro, ki, ko, vo, ng, nd, se, su)) (oc_b ⟨fc, ep, H, rt, pd, ca, tk, upd so (nI t).toNatClampNeg 3, ro, se, ng, nc, st, nd, su, ys, yk, yv, by rw [ct]; exact rl_p3 F s0 s1 s4, fun post hp => hp, fun post hp => hp⟩) (fun post hp => preX post ?_) (fun post hp => preY2 post ?_)
                  · unfold wX_stepUnposted_36
                    refine ⟨it, br_f k4' ⟨it, ?_⟩⟩
                    rw [koA]
                    exact hvX' _ (br_t (by rw [hr2]; exact m1) ⟨it, br_f s1' ⟨it, br_t b ⟨it, nm_e hp⟩⟩⟩)
                  · unfold wY_step_142
                    refine br_f s1' (br_t rfl ⟨it, br_t (agA.symm.trans b) ?_⟩)
                    unfold wY_step_194
                    exact ⟨it, nm_e hp⟩
                · refine sp_o it (WX := fun P => P ((nI cn), (nI sn), (nI tn), (nI fc), pc, (lN ep), (fun i => nI (hp_m (H 0 i))), (fun i => nI (H 1 i)), (fun i => nI (H 2 i)), (fun i => nI (H 3 i)), (fun i => nI (H 4 i)), (fun i => nI (H 5 i)), (fun i => nI (H 6 i)), (fun i => lN (H 7 i)), (fun i => nI (H 8 i)), pd, pA, pB, (fun i => nI (rt i)), ca, tk, (upd so (nI t).toNatClampNeg 1), ro, se, ki, ko, vo, ng, nc, st)) (WY := fun P => P ((nI cn), (nI sn), (nI tn), (nI ep), tk, (fun i => nI (ys i)), ca, (fun i => nI (yk i)), (fun i => nI (yv i)), (upd so (nI t).toNatClampNeg 1), ro, ki, ko, vo, ng, nd, se, su)) (oc_b ⟨fc, ep, H, rt, pd, ca, tk, upd so (nI t).toNatClampNeg 1, ro, se, ng, nc, st, nd, su, ys, yk, yv, rl_so F _ (by decide), fun post hp => hp, fun post hp => hp⟩) (fun post hp => preX post ?_) (fun post hp => preY2 post ?_)
                  · unfold wX_stepUnposted_36
                    refine ⟨it, br_f k4' ⟨it, ?_⟩⟩
                    rw [koA]
                    exact hvX' _ (br_t (by rw [hr2]; exact m1) ⟨it, br_f s1' ⟨it, br_f b ⟨it, nm_e hp⟩⟩⟩)
                  · unfold wY_step_142
                    refine br_f s1' (br_t rfl ⟨it, br_f (fun z => b (agA.trans z)) ?_⟩)
                    unfold wY_step_184
                    exact ⟨it, nm_e hp⟩
            · have nn : ¬ r2 < 0 := by rw [e]; exact nI_pos (by omega)
              subst e
              refine sp_o it (oc_b (wr_wp (pc := pc) (pd := pd) (pA := pA) (pB := pB) (ca := ca) (ro := ro) (se := se) (ng := ng) F hB hw (nI t))) (fun post hp => preX post ?_) (fun post hp => preY post 0 (Or.inr ⟨k4, rfl⟩) ?_)
              · unfold wX_stepUnposted_36
                refine ⟨it, br_f k4' ⟨it, ?_⟩⟩
                rw [koA]
                exact hvX' _ (br_f nn hp)
              · unfold wY_step_123
                exact br_f nn (br_t rfl hp)
  · refine ⟨-3, _, _, rl_b (B := B) (by omega) (rl_in (pc := pc) (pd := pd) (pA := pA) (pB := pB) (ca := ca) (ro := ro) (se := se) (ng := ng) F), fun post hp => ?_, fun post hp => ?_⟩
    · unfold wpX_step
      exact hbX _ (br_t rfl hp)
    · unfold wpY_step
      exact hbY _ (br_t rfl hp)
end
theorem i_vc_step {k : Nat} {u : SX} {v : SY} (I : i_Rel k u v) (hk : k + 5 ≤ 2563) (v1 : Int32) : wpX_step (fun r u' => wpY_step (fun r' v' => r' = r ∧ i_Rel (k + 5) u' v') v v1) u v1 := by
  refine rl_el (P := fun u v => wpX_step (fun r u' => wpY_step (fun r' v' => r' = r ∧ i_Rel (k + 5) u' v') v v1) u v1) I ?_
  intro cn sn tn fc ep H rt pc pd pA pB ca tk so ro se ki ko vo ng nc st nd su ys yk yv F
  obtain ⟨r, u', v', R, hX, hY⟩ := st_wp (pc := pc) (pd := pd) (pA := pA) (pB := pB) (ca := ca) (ro := ro) (se := se) (ng := ng) F (by omega) v1
  exact hX _ (hY _ ⟨rfl, rl_b (by omega) R⟩)
theorem fn_l {t : Nat} (ht : t < 4) : ∀ (m i B : Nat) (u : SX) (v : SY), m + i = 8 → B + m < 2 ^ 31 → rl_R B u v → ∃ (r : Int32) (u' : SX) (v' : SY), rl_R (B + m) u' v' ∧
    (∀ post : Int32 → SX → Prop, post r u' → ∀ n, m < n → (match u with | (f0, f1, f2, f3, f4, f5, b0, b1, b2, b3, b4, b5, b6, b7, b8, b9, b10, b11, b12, b13, b14, b15, b16, b17, b18, b19, b20, b21, b22, b23) => wX_finish_13 post (nI t) n (nI i) f0 f1 f2 f3 f4 f5 b0 b1 b2 b3 b4 b5 b6 b7 b8 b9 b10 b11 b12 b13 b14 b15 b16 b17 b18 b19 b20 b21 b22 b23)) ∧
    (∀ post : Int32 → SY → Prop, post r v' → ∀ n, m < n → (match v with | (f0, f1, f2, f3, b0, b1, b2, b3, b4, b5, b6, b7, b8, b9, b10, b11, b12, b13) => wY_finish_13 post (nI t) n (nI i) f0 f1 f2 f3 b0 b1 b2 b3 b4 b5 b6 b7 b8 b9 b10 b11 b12 b13)) := by
  have it : vp_in (nI t) 4 := vp_in_nI ht (by decide)
  intro m
  induction m with
  | zero =>
    intro i B u v hi hB I
    refine rl_el (P := fun u v => ∃ (r : Int32) (u' : SX) (v' : SY), rl_R (B + 0) u' v' ∧
      (∀ post : Int32 → SX → Prop, post r u' → ∀ n, 0 < n → (match u with | (f0, f1, f2, f3, f4, f5, b0, b1, b2, b3, b4, b5, b6, b7, b8, b9, b10, b11, b12, b13, b14, b15, b16, b17, b18, b19, b20, b21, b22, b23) => wX_finish_13 post (nI t) n (nI i) f0 f1 f2 f3 f4 f5 b0 b1 b2 b3 b4 b5 b6 b7 b8 b9 b10 b11 b12 b13 b14 b15 b16 b17 b18 b19 b20 b21 b22 b23)) ∧
      (∀ post : Int32 → SY → Prop, post r v' → ∀ n, 0 < n → (match v with | (f0, f1, f2, f3, b0, b1, b2, b3, b4, b5, b6, b7, b8, b9, b10, b11, b12, b13) => wY_finish_13 post (nI t) n (nI i) f0 f1 f2 f3 b0 b1 b2 b3 b4 b5 b6 b7 b8 b9 b10 b11 b12 b13))) I ?_
    intro cn sn tn fc ep H rt pc pd pA pB ca tk so ro se ki ko vo ng nc st nd su ys yk yv F
    have le : nI 8 ≤ nI i := nI_le (by omega) (by omega)
    refine ⟨ro (nI t).toNatClampNeg, _, _, rl_in (pc := pc) (pd := pd) (pA := pA) (pB := pB) (ca := ca) (ro := ro) (se := se) (ng := ng) F, fun post hp n hn => ?_, fun post hp n hn => ?_⟩
    · obtain ⟨n, rfl⟩ : ∃ n', n = n' + 1 := ⟨n - 1, by omega⟩
      exact br_t le ⟨it, hp⟩
    · obtain ⟨n, rfl⟩ : ∃ n', n = n' + 1 := ⟨n - 1, by omega⟩
      exact br_t le ⟨it, hp⟩
  | succ m ih =>
    intro i B u v hi hB I
    refine rl_el (P := fun u v => ∃ (r : Int32) (u' : SX) (v' : SY), rl_R (B + (m + 1)) u' v' ∧
      (∀ post : Int32 → SX → Prop, post r u' → ∀ n, m + 1 < n → (match u with | (f0, f1, f2, f3, f4, f5, b0, b1, b2, b3, b4, b5, b6, b7, b8, b9, b10, b11, b12, b13, b14, b15, b16, b17, b18, b19, b20, b21, b22, b23) => wX_finish_13 post (nI t) n (nI i) f0 f1 f2 f3 f4 f5 b0 b1 b2 b3 b4 b5 b6 b7 b8 b9 b10 b11 b12 b13 b14 b15 b16 b17 b18 b19 b20 b21 b22 b23)) ∧
      (∀ post : Int32 → SY → Prop, post r v' → ∀ n, m + 1 < n → (match v with | (f0, f1, f2, f3, b0, b1, b2, b3, b4, b5, b6, b7, b8, b9, b10, b11, b12, b13) => wY_finish_13 post (nI t) n (nI i) f0 f1 f2 f3 b0 b1 b2 b3 b4 b5 b6 b7 b8 b9 b10 b11 b12 b13))) I ?_
    intro cn sn tn fc ep H rt pc pd pA pB ca tk so ro se ki ko vo ng nc st nd su ys yk yv F
    have gt : ¬ nI 8 ≤ nI i := nI_ge (by omega) (by decide)
    by_cases z : so (nI t).toNatClampNeg = 0
    · refine ⟨ro (nI t).toNatClampNeg, _, _, rl_b (B := B) (by omega) (rl_in (pc := pc) (pd := pd) (pA := pA) (pB := pB) (ca := ca) (ro := ro) (se := se) (ng := ng) F), fun post hp n hn => ?_, fun post hp n hn => ?_⟩
      · obtain ⟨n, rfl⟩ : ∃ n', n = n' + 1 := ⟨n - 1, by omega⟩
        exact br_f gt ⟨it, br_t z ⟨it, hp⟩⟩
      · obtain ⟨n, rfl⟩ : ∃ n', n = n' + 1 := ⟨n - 1, by omega⟩
        exact br_f gt ⟨it, br_t z ⟨it, hp⟩⟩
    · obtain ⟨r, u1, v1, R, hX, hY⟩ := st_wp (pc := pc) (pd := pd) (pA := pA) (pB := pB) (ca := ca) (ro := ro) (se := se) (ng := ng) F (by omega) (nI t)
      obtain ⟨r', u', v', R', wX, wY⟩ := ih (i + 1) (B + 1) u1 v1 (by omega) (by omega) R
      refine ⟨r', u', v', rl_b (by omega) R', fun post hp n hn => ?_, fun post hp n hn => ?_⟩
      · obtain ⟨n, rfl⟩ : ∃ n', n = n' + 1 := ⟨n - 1, by omega⟩
        refine br_f gt ⟨it, br_f z (hX _ ?_)⟩
        have hh := wX post hp n (by omega)
        obtain ⟨f0, f1, f2, f3, f4, f5, b0, b1, b2, b3, b4, b5, b6, b7, b8, b9, b10, b11, b12, b13, b14, b15, b16, b17, b18, b19, b20, b21, b22, b23⟩ := u1
        exact nm_r (nI_1 i) hh
      · obtain ⟨n, rfl⟩ : ∃ n', n = n' + 1 := ⟨n - 1, by omega⟩
        refine br_f gt ⟨it, br_f z (hY _ ?_)⟩
        have hh := wY post hp n (by omega)
        obtain ⟨f0, f1, f2, f3, b0, b1, b2, b3, b4, b5, b6, b7, b8, b9, b10, b11, b12, b13⟩ := v1
        exact nm_r (nI_1 i) hh
theorem i_vc_finish {k : Nat} {u : SX} {v : SY} (I : i_Rel k u v) (hk : k + 5 ≤ 2563) (v1 : Int32) : wpX_finish (fun r u' => wpY_finish (fun r' v' => r' = r ∧ i_Rel (k + 5) u' v') v v1) u v1 := by
  refine rl_el (P := fun u v => wpX_finish (fun r u' => wpY_finish (fun r' v' => r' = r ∧ i_Rel (k + 5) u' v') v v1) u v1) I ?_
  intro cn sn tn fc ep H rt pc pd pA pB ca tk so ro se ki ko vo ng nc st nd su ys yk yv F
  have J0 := rl_in (pc := pc) (pd := pd) (pA := pA) (pB := pB) (ca := ca) (ro := ro) (se := se) (ng := ng) F
  have J := i_up (k := k) J0
  have t4 := F.2.2.1.2
  unfold wpX_finish wpY_finish
  rcases iy_wp (pc := pc) (pd := pd) (pA := pA) (pB := pB) (ca := ca) (tk := tk) (so := so) (ro := ro) (se := se) (ki := ki) (ko := ko) (vo := vo) (ng := ng) (nc := nc) (st := st) (nd := nd) (su := su) (H := H) (rt := rt) (ys := ys) (yk := yk) (yv := yv) (cn := cn) (sn := sn) (fc := fc) (ep := ep) v1 t4 with ⟨t, ht, rfl, hz, hX, hY⟩ | ⟨hX, hY⟩
  · obtain ⟨r, u', v', R, wX, wY⟩ := fn_l (t := t) (by omega) 8 0 (8 * k) _ _ (by omega) (by omega) J0
    exact hX _ (br_f (by decide) ⟨9, wX _ (hY _ (br_f (by decide) ⟨9, wY _ ⟨rfl, rl_b (by omega) R⟩ 9 (by omega)⟩)) 9 (by omega)⟩)
  · exact hX _ (br_t rfl (hY _ (br_t rfl ⟨rfl, J⟩)))
end
