section
theorem pk_us {f : Nat → Int32} {k : Nat} {x : Int32} : upd f k x k = x := if_pos rfl
theorem pk_un {f : Nat → Int32} {k j : Nat} {x : Int32} (h : j ≠ k) : upd f k x j = f j := if_neg h
theorem pk_sub {a b : Nat} (h : b ≤ a) : nI a - nI b = nI (a - b) := by
  obtain ⟨c, rfl⟩ : ∃ c, a = c + b := ⟨a - b, by omega⟩
  rw [← nI_add, Int32.add_sub_cancel, Nat.add_sub_cancel]
theorem pk_m1 (n : Nat) : nI (n + 1) + (-1) = nI n := by
  rw [← nI_1, Int32.add_assoc, show (1 : Int32) + (-1) = 0 from rfl, Int32.add_zero]
theorem pk_mul (a b : Nat) : nI a * nI b = nI (a * b) := (Int32.ofNat_mul a b).symm
theorem pk_sub_toInt {a b : Nat} (ha : a < 2 ^ 30) (hb : b < 2 ^ 30) : (nI a - nI b).toInt = (a : Int) - b := by
  rw [Int32.toInt_sub, nI_toInt (by omega), nI_toInt (by omega)]
  exact Int.bmod_eq_of_le (by omega) (by omega)
theorem pk_sneg {a b : Nat} (hb : b < 2 ^ 30) (h : a < b) : nI a - nI b < 0 := by
  rw [Int32.lt_iff_toInt_lt, pk_sub_toInt (by omega) hb, show (0 : Int32).toInt = 0 from by decide]
  omega
theorem pk_ix (x : Int32) {n : Nat} (hn : n < 2 ^ 31) : x < 0 ∨ nI n ≤ x ∨ ∃ j : Nat, j < n ∧ x = nI j := by
  by_cases h : x < 0
  · exact Or.inl h
  · obtain ⟨j, hj, rfl⟩ := nI_of h
    by_cases h2 : j < n
    · exact Or.inr (Or.inr ⟨j, h2, rfl⟩)
    · exact Or.inr (Or.inl (nI_le (by omega) hj))
theorem pk_le {x y : Int32} {A B : Prop} (a b : Nat) (f : a ≤ b → A) (g : b < a → B) (hx : x = nI a := by rfl) (hy : y = nI b := by rfl) (ha : a < 2 ^ 31 := by omega) (hb : b < 2 ^ 31 := by omega) : (x ≤ y → A) ∧ (¬ x ≤ y → B) := by
  subst hx hy
  rw [nI_leI ha hb]
  exact ⟨f, fun z => g (by omega)⟩
theorem pk_lt {x y : Int32} {A B : Prop} (a b : Nat) (f : a < b → A) (g : b ≤ a → B) (hx : x = nI a := by rfl) (hy : y = nI b := by rfl) (ha : a < 2 ^ 31 := by omega) (hb : b < 2 ^ 31 := by omega) : (x < y → A) ∧ (¬ x < y → B) := by
  subst hx hy
  rw [nI_ltI ha hb]
  exact ⟨f, fun z => g (by omega)⟩
theorem pk_eq {x y : Int32} {A B : Prop} (a b : Nat) (f : a = b → A) (g : a ≠ b → B) (hx : x = nI a := by rfl) (hy : y = nI b := by rfl) (ha : a < 2 ^ 31 := by omega) (hb : b < 2 ^ 31 := by omega) : (x = y → A) ∧ (¬ x = y → B) := by
  subst hx hy
  rw [nI_eq ha hb]
  exact ⟨f, g⟩
theorem pk_in {x : Int32} (n N : Nat) (h : n < N) (hx : x = nI n := by rfl) (hN : N < 2 ^ 31 := by omega) : vp_in x N := by
  subst hx
  exact vp_in_nI h hN
theorem pk_cl {x : Int32} (n : Nat) (hx : x = nI n := by rfl) (h : n < 2 ^ 31 := by omega) : x.toNatClampNeg = n := by
  subst hx
  exact nI_clamp h
theorem pk_tn {n : Nat} (h : n < 2 ^ 32) : (nI n).toBitVec.toNat = n := Nat.mod_eq_of_lt h
theorem pk_and (x : Int32) {m : Int32} (k : Nat) (hm : m.toBitVec.toNat = 2 ^ k - 1) : x &&& m = nI (x.toBitVec.toNat % 2 ^ k) := by
  apply Int32.toBitVec_inj.mp
  apply BitVec.eq_of_toNat_eq
  rw [Int32.toBitVec_and, BitVec.toNat_and, hm, Nat.and_two_pow_sub_one_eq_mod]
  show _ = (BitVec.ofNat 32 _).toNat
  rw [BitVec.toNat_ofNat]
  exact (Nat.mod_eq_of_lt (Nat.lt_of_le_of_lt (Nat.mod_le _ _) x.toBitVec.isLt)).symm
theorem pk_andN {n : Nat} (h : n < 2 ^ 32) {m : Int32} (k : Nat) (hm : m.toBitVec.toNat = 2 ^ k - 1) : nI n &&& m = nI (n % 2 ^ k) := by
  rw [pk_and _ k hm, pk_tn h]
theorem pk_andE (x : Int32) {m : Int32} (k : Nat) (hm : m.toBitVec.toNat = 2 ^ k - 1) : ∃ j : Nat, j < 2 ^ k ∧ x &&& m = nI j := ⟨_, Nat.mod_lt _ (Nat.two_pow_pos k), pk_and x k hm⟩
theorem pk_andIn (x : Int32) {m : Int32} (k : Nat) (hm : m.toBitVec.toNat = 2 ^ k - 1) (hk : k ≤ 30) : vp_in (x &&& m) (2 ^ k) := by
  obtain ⟨j, hj, e⟩ := pk_andE x k hm
  rw [e]
  exact vp_in_nI hj (Nat.lt_of_le_of_lt (Nat.pow_le_pow_right (by decide) hk) (by decide))
theorem pk_shl (a s : Int32) (k : Nat) (hs : (s.toBitVec.smod 32).toNat = k) : (a <<< s).toBitVec.toNat = a.toBitVec.toNat * 2 ^ k % 2 ^ 32 := by
  show (a.toBitVec <<< (s.toBitVec.smod 32).toNat).toNat = _
  rw [hs, BitVec.toNat_shiftLeft, Nat.shiftLeft_eq]
theorem pk_shlN {n : Nat} (s : Int32) (k : Nat) (hs : (s.toBitVec.smod 32).toNat = k) (h : n * 2 ^ k < 2 ^ 32) : nI n <<< s = nI (n * 2 ^ k) := by
  apply Int32.toBitVec_inj.mp
  apply BitVec.eq_of_toNat_eq
  have hn : n < 2 ^ 32 := Nat.lt_of_le_of_lt (Nat.le_mul_of_pos_right n (Nat.two_pow_pos k)) h
  rw [pk_shl _ _ k hs, pk_tn hn, pk_tn h, Nat.mod_eq_of_lt h]
theorem pk_shr (a s : Int32) (k : Nat) (hs : (s.toBitVec.smod 32).toNat = k) : (a >>> s).toInt = a.toInt >>> k := by
  show (a.toBitVec.sshiftRight (s.toBitVec.smod 32).toNat).toInt = _
  rw [hs, BitVec.toInt_sshiftRight]
  rfl
theorem pk_shrN {n : Nat} (h : n < 2 ^ 31) (s : Int32) (k : Nat) (hs : (s.toBitVec.smod 32).toNat = k) : nI n >>> s = nI (n / 2 ^ k) := by
  apply Int32.toInt_inj.mp
  have h2 : n / 2 ^ k ≤ n := Nat.div_le_self _ _
  rw [pk_shr _ _ k hs, nI_toInt h, nI_toInt (by omega), Int.shiftRight_eq_div_pow]
  rfl
theorem pk_least (P : Nat → Prop) (h : ∃ k, P k) : ∃ k, P k ∧ ∀ j, j < k → ¬ P j := by
  obtain ⟨k, hk⟩ := h
  induction k using Nat.strongRecOn with
  | ind k ih =>
    by_cases e : ∃ j, j < k ∧ P j
    · obtain ⟨j, hj, pj⟩ := e
      exact ih j hj pj
    · exact ⟨k, hk, fun j hj pj => e ⟨j, hj, pj⟩⟩
theorem sb_shr0 (x : Int32) : x >>> ((0 : Int32) &&& 31) = x := by
  rw [show ((0 : Int32) &&& 31) = 0 by decide]
  simp
theorem sb_shl0 (x : Int32) : x <<< ((0 : Int32) &&& 31) = x := by
  rw [show ((0 : Int32) &&& 31) = 0 by decide]
  simp
theorem sb_cl0 : (0 : Int32).toNatClampNeg = 0 := by decide
theorem sb_m1 {p : Nat} (h : 0 < p) : nI p + (-1) = nI (p - 1) := by
  obtain ⟨q, rfl⟩ : ∃ q, p = q + 1 := ⟨p - 1, by omega⟩
  exact pk_m1 q
def bt (x : Int32) (i : Nat) : Bool := x.toBitVec.getLsbD i
theorem b_ext {x y : Int32} (h : ∀ i, i < 32 → bt x i = bt y i) : x = y := Int32.toBitVec_inj.mp (BitVec.eq_of_getLsbD_eq (fun i hi => h i hi))
theorem b_or (x y : Int32) (i : Nat) : bt (x ||| y) i = (bt x i || bt y i) := by unfold bt; rw [Int32.toBitVec_or, BitVec.getLsbD_or]
theorem b_and (x y : Int32) (i : Nat) : bt (x &&& y) i = (bt x i && bt y i) := by unfold bt; rw [Int32.toBitVec_and, BitVec.getLsbD_and]
theorem b_xor (x y : Int32) (i : Nat) : bt (x ^^^ y) i = (bt x i ^^ bt y i) := by unfold bt; rw [Int32.toBitVec_xor, BitVec.getLsbD_xor]
theorem b_big {x : Int32} {i : Nat} (h : 32 ≤ i) : bt x i = false := BitVec.getLsbD_of_ge _ _ h
theorem b_m1 : ∀ i, i < 32 → bt (-1) i = true := by decide +kernel
theorem b_0 (i : Nat) : bt 0 i = false := BitVec.getLsbD_zero
theorem s_l : ∀ n, n < 32 → ((nI n &&& 31).toBitVec.smod 32).toNat = n := by decide +kernel
theorem s_u : ∀ n, n < 32 → (((nI n).toUInt32 &&& Int32.toUInt32 31).toBitVec % 32).toNat = n := by decide +kernel
theorem b_shl (n : Nat) (hn : n < 32) (x : Int32) {i : Nat} (hi : i < 32) : bt (x <<< (nI n &&& 31)) i = (decide (n ≤ i) && bt x (i - n)) := by
  unfold bt
  rw [Int32.toBitVec_shiftLeft]
  show (x.toBitVec <<< ((nI n &&& 31).toBitVec.smod 32).toNat).getLsbD i = _
  rw [s_l n hn, BitVec.getLsbD_shiftLeft]
  rcases Nat.lt_or_ge i n with h | h
  · simp [h, Nat.not_le.mpr h]
  · simp [hi, h, Nat.not_lt.mpr h]
theorem b_sshr (n : Nat) (hn : n < 32) (x : Int32) {i : Nat} (hi : i < 32) : bt (x >>> (nI n &&& 31)) i = if n + i < 32 then bt x (n + i) else bt x 31 := by
  unfold bt
  rw [Int32.toBitVec_shiftRight]
  show (x.toBitVec.sshiftRight ((nI n &&& 31).toBitVec.smod 32).toNat).getLsbD i = _
  rw [s_l n hn, BitVec.getLsbD_sshiftRight, BitVec.msb_eq_getLsbD_last]
  simp [hi]
theorem nx_and (a b : Nat) : nI a &&& nI b = nI (a &&& b) := by
  apply Int32.toBitVec_inj.1
  show BitVec.ofNat 32 a &&& BitVec.ofNat 32 b = BitVec.ofNat 32 (a &&& b)
  apply BitVec.eq_of_getLsbD_eq
  intro i hi
  simp [hi]
end
section
/-! bits, counts, masks, prefixes, digits -/
def zb_cnt (p : Nat → Bool) : Nat → Nat
  | 0 => 0
  | n + 1 => zb_cnt p n + (if p n = true then 1 else 0)
def zb_fst (p : Nat → Bool) : Nat → Nat
  | 0 => 0
  | n + 1 => if p n = true then n else zb_fst p n
def zb_mk (p : Nat → Bool) : Nat → Int32
  | 0 => 0
  | n + 1 => if p n = true then zb_mk p n ||| ((1 : Int32) <<< (nI n &&& 31)) else zb_mk p n
def zb_B (m n : Int32) : Int32 := (m >>> (n &&& 31)) &&& 1
def zb_P (k d : Int32) : Int32 := (k >>> ((16 - (4 * d)) &&& 31)) <<< ((16 - (4 * d)) &&& 31)
def zb_D (k j : Int32) : Int32 := (k >>> ((12 - (4 * j)) &&& 31)) &&& 15
def zb_K (x : Int32) : Prop := ¬ x < 0 ∧ ¬ 65535 < x

theorem zb_one : ∀ j, j < 32 → bt 1 j = decide (j = 0) := by decide +kernel
theorem zb_B_bt (m : Int32) {i : Nat} (hi : i < 32) : zb_B m (nI i) = if bt m i = true then 1 else 0 := by
  unfold zb_B
  apply b_ext
  intro j hj
  rw [b_and, b_sshr i hi m hj, zb_one j hj]
  rcases j with _ | j
  · by_cases hb : bt m i = true
    · simp [hi, hb, zb_one 0 (by omega)]
    · simp [hi, hb, b_0]
  · by_cases hb : bt m i = true
    · simp [hb, zb_one (j + 1) hj]
    · simp [hb, b_0]
theorem zb_B_t {m : Int32} {i : Nat} (hi : i < 32) (h : bt m i = true) : zb_B m (nI i) = 1 := by rw [zb_B_bt m hi, if_pos h]
theorem zb_B_f {m : Int32} {i : Nat} (hi : i < 32) (h : bt m i = false) : zb_B m (nI i) = 0 := by rw [zb_B_bt m hi, h]; rfl
theorem zb_1ne0 : ¬ (1 : Int32) = 0 := by decide
theorem zb_0ne1 : ¬ (0 : Int32) = 1 := by decide
theorem zb_bit1 {n : Nat} (hn : n < 32) {i : Nat} (hi : i < 32) : bt ((1 : Int32) <<< (nI n &&& 31)) i = decide (i = n) := by
  rw [b_shl n hn _ hi]
  by_cases h : n ≤ i
  · rw [zb_one _ (by omega), decide_eq_true h, Bool.true_and]
    by_cases e : i = n
    · rw [decide_eq_true e, decide_eq_true (by omega)]
    · rw [decide_eq_false e, decide_eq_false (by omega)]
  · rw [decide_eq_false h, Bool.false_and, decide_eq_false (by omega)]
theorem zb_mk_bt (p : Nat → Bool) : ∀ n, n ≤ 16 → ∀ i, i < 32 → bt (zb_mk p n) i = (decide (i < n) && p i) := by
  intro n
  induction n with
  | zero => intro _ i _; rw [zb_mk, b_0]; simp
  | succ n ih =>
    intro hn i hi
    have e := ih (by omega) i hi
    rw [zb_mk]
    by_cases h : p n = true
    · rw [if_pos h, b_or, e, zb_bit1 (by omega) hi]
      by_cases ei : i = n
      · subst ei; simp [h]
      · rw [decide_eq_false ei, Bool.or_false]
        by_cases hl : i < n
        · rw [decide_eq_true hl, decide_eq_true (by omega)]
        · rw [decide_eq_false hl, decide_eq_false (by omega)]
    · rw [if_neg h, e]
      by_cases ei : i = n
      · subst ei; simp [h]
      · by_cases hl : i < n
        · rw [decide_eq_true hl, decide_eq_true (by omega)]
        · rw [decide_eq_false hl, decide_eq_false (by omega)]
theorem zb_mk_b {p : Nat → Bool} {v : Nat} (hv : v < 16) : bt (zb_mk p 16) v = p v := by
  rw [zb_mk_bt p 16 (by omega) v (by omega), decide_eq_true hv, Bool.true_and]
theorem zb_mk_eq {p : Nat → Bool} {m : Int32} (h : ∀ v, v < 16 → bt m v = p v) (h2 : ∀ v, 16 ≤ v → v < 32 → bt m v = false) : m = zb_mk p 16 := by
  apply b_ext
  intro i hi
  by_cases hl : i < 16
  · rw [zb_mk_b hl, h i hl]
  · rw [zb_mk_bt p 16 (by omega) i hi, decide_eq_false hl, Bool.false_and, h2 i (by omega) hi]
theorem zb_mk_hi {p : Nat → Bool} {v : Nat} (hv : 16 ≤ v) (h : v < 32) : bt (zb_mk p 16) v = false := by
  rw [zb_mk_bt p 16 (by omega) v h, decide_eq_false (by omega), Bool.false_and]
theorem zb_cnt_ext {p q : Nat → Bool} : ∀ n, (∀ i, i < n → p i = q i) → zb_cnt p n = zb_cnt q n := by
  intro n
  induction n with
  | zero => intro _; rfl
  | succ n ih => intro h; rw [zb_cnt, zb_cnt, ih (fun i hi => h i (by omega)), h n (by omega)]
theorem zb_fst_ext {p q : Nat → Bool} : ∀ n, (∀ i, i < n → p i = q i) → zb_fst p n = zb_fst q n := by
  intro n
  induction n with
  | zero => intro _; rfl
  | succ n ih => intro h; rw [zb_fst, zb_fst, ih (fun i hi => h i (by omega)), h n (by omega)]
theorem zb_mk_ext {p q : Nat → Bool} : ∀ n, (∀ i, i < n → p i = q i) → zb_mk p n = zb_mk q n := by
  intro n
  induction n with
  | zero => intro _; rfl
  | succ n ih => intro h; rw [zb_mk, zb_mk, ih (fun i hi => h i (by omega)), h n (by omega)]
theorem zb_cnt_le (p : Nat → Bool) : ∀ n, zb_cnt p n ≤ n := by
  intro n
  induction n with
  | zero => exact Nat.le_refl 0
  | succ n ih => rw [zb_cnt]; split <;> omega
theorem zb_cnt_mono (p : Nat → Bool) {a b : Nat} (h : a ≤ b) : zb_cnt p a ≤ zb_cnt p b := by
  induction b with
  | zero => have : a = 0 := by omega
            subst this; exact Nat.le_refl _
  | succ b ih =>
    by_cases e : a = b + 1
    · subst e; exact Nat.le_refl _
    · have := ih (by omega)
      rw [zb_cnt]; omega
theorem zb_cnt_lt (p : Nat → Bool) {a b : Nat} (h : a < b) (hp : p a = true) : zb_cnt p a < zb_cnt p b := by
  have := zb_cnt_mono p (show a + 1 ≤ b from h)
  rw [zb_cnt, if_pos hp] at this
  omega
theorem zb_cnt_pos {p : Nat → Bool} {i : Nat} : ∀ n, i < n → p i = true → 0 < zb_cnt p n := by
  intro n hi hp
  have := zb_cnt_lt p hi hp
  omega
theorem zb_fst_ok {p : Nat → Bool} : ∀ n, 0 < zb_cnt p n → zb_fst p n < n ∧ p (zb_fst p n) = true := by
  intro n
  induction n with
  | zero => intro h; exact absurd h (by rw [zb_cnt]; omega)
  | succ n ih =>
    intro h
    rw [zb_fst]
    by_cases hp : p n = true
    · rw [if_pos hp]; exact ⟨by omega, hp⟩
    · rw [if_neg hp]
      rw [zb_cnt, if_neg hp] at h
      have := ih (by omega)
      exact ⟨by omega, this.2⟩
theorem zb_cnt_0 {p : Nat → Bool} {n : Nat} (h : zb_cnt p n = 0) {i : Nat} (hi : i < n) : p i = false := by
  cases hp : p i with
  | false => rfl
  | true => have := zb_cnt_pos n hi hp; omega
theorem zb_cnt_00 {p : Nat → Bool} : ∀ n, (∀ i, i < n → p i = false) → zb_cnt p n = 0 := by
  intro n
  induction n with
  | zero => intro _; rfl
  | succ n ih => intro h; rw [zb_cnt, ih (fun i hi => h i (by omega)), h n (by omega)]; rfl
theorem zb_cnt_1 {p : Nat → Bool} : ∀ n, zb_cnt p n = 1 → ∀ i, i < n → p i = true → i = zb_fst p n := by
  intro n
  induction n with
  | zero => intro h; exact absurd h (by rw [zb_cnt]; omega)
  | succ n ih =>
    intro h i hi hp
    rw [zb_cnt] at h
    rw [zb_fst]
    by_cases hn : p n = true
    · rw [if_pos hn]
      rw [if_pos hn] at h
      by_cases e : i = n
      · exact e
      · have := zb_cnt_pos n (show i < n by omega) hp; omega
    · rw [if_neg hn]
      rw [if_neg hn] at h
      by_cases e : i = n
      · subst e; exact absurd hp hn
      · exact ih (by omega) i (by omega) hp
theorem zb_cnt_set {p q : Nat → Bool} {i : Nat} : ∀ n, i < n → (∀ j, j ≠ i → q j = p j) → p i = false → q i = true → zb_cnt q n = zb_cnt p n + 1 := by
  intro n
  induction n with
  | zero => intro h; omega
  | succ n ih =>
    intro hi hj h0 h1
    rw [zb_cnt, zb_cnt]
    by_cases e : i = n
    · subst e
      rw [if_pos h1, h0, zb_cnt_ext i (fun j hl => hj j (by omega))]
      rfl
    · rw [ih (by omega) hj h0 h1, hj n (by omega)]; omega
theorem zb_cnt_1' {p : Nat → Bool} {i n : Nat} (hi : i < n) (hp : p i = true) (h : ∀ j, j < n → p j = true → j = i) : zb_cnt p n = 1 := by
  have e : zb_cnt p n = zb_cnt (fun _ => false) n + 1 := by
    have e1 : zb_cnt p n = zb_cnt (fun j => decide (j = i)) n := by
      apply zb_cnt_ext
      intro j hj
      cases hq : p j with
      | true => exact (decide_eq_true (h j hj hq)).symm
      | false => refine (decide_eq_false ?_).symm
                 intro e; subst e; rw [hp] at hq; cases hq
    rw [e1]
    exact zb_cnt_set n hi (fun j hj => decide_eq_false hj) rfl (decide_eq_true rfl)
  rw [e, zb_cnt_00 n (fun _ _ => rfl)]
theorem zb_cnt_2 {p : Nat → Bool} {i j n : Nat} (hi : i < n) (hj : j < n) (e : i ≠ j) (pi : p i = true) (pj : p j = true) : 2 ≤ zb_cnt p n := by
  rcases Nat.lt_or_gt_of_ne e with h | h
  · have a := zb_cnt_lt p h pi
    have b := zb_cnt_lt p hj pj
    omega
  · have a := zb_cnt_lt p h pj
    have b := zb_cnt_lt p hi pi
    omega
theorem zb_cnt_2' {p : Nat → Bool} {i n : Nat} (h : 2 ≤ zb_cnt p n) (hi : i < n) : ∃ j, j < n ∧ j ≠ i ∧ p j = true := by
  apply Classical.byContradiction
  intro hn
  have hh : ∀ j, j < n → p j = true → j = i := fun j hj hp => Classical.byContradiction (fun e => hn ⟨j, hj, e, hp⟩)
  by_cases hp : p i = true
  · have := zb_cnt_1' hi hp hh; omega
  · have : zb_cnt p n = 0 := zb_cnt_00 n (fun j hj => by
      cases hq : p j with
      | false => rfl
      | true => have := hh j hj hq; subst this; exact absurd hq hp)
    omega
theorem zb_low : ∀ n, n < 16 → ∀ i, i < 16 → bt (((1 : Int32) <<< (nI n &&& 31)) - 1) i = decide (i < n) := by decide +kernel
theorem zb_cnt_low (p : Nat → Bool) (n : Nat) : ∀ N, zb_cnt (fun i => p i && decide (i < n)) N = zb_cnt p (min n N) := by
  intro N
  induction N with
  | zero => rw [Nat.min_zero]; rfl
  | succ N ih =>
    rw [zb_cnt, ih]
    by_cases h : N < n
    · rw [decide_eq_true h, Bool.and_true, Nat.min_eq_right (by omega), Nat.min_eq_right (by omega), zb_cnt]
    · rw [decide_eq_false h, Bool.and_false, Nat.min_eq_left (by omega), Nat.min_eq_left (by omega)]; rfl
theorem zb_rank (m : Int32) {n : Nat} (hn : n < 16) : zb_cnt (bt (m &&& (((1 : Int32) <<< (nI n &&& 31)) - 1))) 16 = zb_cnt (bt m) n := by
  rw [zb_cnt_ext (q := fun i => bt m i && decide (i < n)) 16 (fun i hi => by rw [b_and, zb_low n hn i hi]), zb_cnt_low, Nat.min_eq_left (by omega)]
theorem zb_only {p : Nat → Bool} (h : zb_cnt p 16 = 1) : zb_cnt (bt (zb_mk p 16 - 1)) 16 = zb_fst p 16 := by
  have hf := zb_fst_ok 16 (show 0 < zb_cnt p 16 by omega)
  have e : (1 : Int32) <<< (nI (zb_fst p 16) &&& 31) = zb_mk p 16 := by
    apply zb_mk_eq
    · intro v hv
      rw [zb_bit1 (by omega) (by omega)]
      cases hp : p v with
      | true => exact decide_eq_true (zb_cnt_1 16 h v hv hp)
      | false => refine decide_eq_false ?_
                 intro e; rw [e, hf.2] at hp; cases hp
    · intro v hv hv2
      rw [zb_bit1 (by omega) hv2]
      exact decide_eq_false (by omega)
  rw [← e, zb_cnt_ext (q := fun i => (fun _ => true) i && decide (i < zb_fst p 16)) 16 (fun i hi => by rw [zb_low _ hf.1 i hi]; rfl), zb_cnt_low, Nat.min_eq_left (by omega)]
  generalize zb_fst p 16 = n
  induction n with
  | zero => rfl
  | succ n ih => rw [zb_cnt, ih]; rfl
theorem zb_P_nI {k h : Nat} (hk : k < 65536) (hh : h ≤ 4) : zb_P (nI k) (nI (4 - h)) = nI (k / 16 ^ h * 16 ^ h) := by
  unfold zb_P
  rcases (by omega : h = 0 ∨ h = 1 ∨ h = 2 ∨ h = 3 ∨ h = 4) with rfl | rfl | rfl | rfl | rfl
  · rw [pk_shrN (by omega) _ 0 (by decide), pk_shlN _ 0 (by decide) (by omega)]
  · rw [pk_shrN (by omega) _ 4 (by decide), pk_shlN _ 4 (by decide) (by omega)]
  · rw [pk_shrN (by omega) _ 8 (by decide), pk_shlN _ 8 (by decide) (by omega)]
  · rw [pk_shrN (by omega) _ 12 (by decide), pk_shlN _ 12 (by decide) (by omega)]
  · rw [pk_shrN (by omega) _ 16 (by decide), pk_shlN _ 16 (by decide) (by omega)]
theorem zb_D_nI {k h : Nat} (hk : k < 65536) (hh : h < 4) : zb_D (nI k) (nI (3 - h)) = nI (k / 16 ^ h % 16) := by
  unfold zb_D
  rcases (by omega : h = 0 ∨ h = 1 ∨ h = 2 ∨ h = 3) with rfl | rfl | rfl | rfl
  · rw [pk_shrN (by omega) _ 0 (by decide), pk_andN (by omega) 4 (by decide)]
  · rw [pk_shrN (by omega) _ 4 (by decide), pk_andN (by omega) 4 (by decide)]
  · rw [pk_shrN (by omega) _ 8 (by decide), pk_andN (by omega) 4 (by decide)]
  · rw [pk_shrN (by omega) _ 12 (by decide), pk_andN (by omega) 4 (by decide)]
theorem zb_D_in (k j : Int32) : ∃ v, v < 16 ∧ zb_D k j = nI v := pk_andE _ 4 (by decide)
theorem zb_nor (a b : Nat) : nI a ||| nI b = nI (a ||| b) := by
  apply Int32.toBitVec_inj.1
  show BitVec.ofNat 32 a ||| BitVec.ofNat 32 b = BitVec.ofNat 32 (a ||| b)
  apply BitVec.eq_of_getLsbD_eq
  intro i hi
  simp [hi]
theorem zb_or4 {a b : Nat} (i : Nat) (hb : b < 16) : nI (a * 2 ^ (i + 4)) ||| nI (b * 2 ^ i) = nI ((16 * a + b) * 2 ^ i) := by
  rw [zb_nor]
  have hlt : b * 2 ^ i < 2 ^ (i + 4) := by
    rw [Nat.pow_add, Nat.mul_comm (2 ^ i)]
    exact Nat.mul_lt_mul_of_pos_right (by omega) (Nat.two_pow_pos i)
  rw [Nat.mul_comm a, ← Nat.two_pow_add_eq_or_of_lt hlt]
  refine congrArg nI ?_
  rw [Nat.add_mul, Nat.pow_add, Nat.mul_comm (2 ^ i) (2 ^ 4), Nat.mul_assoc, Nat.mul_assoc, Nat.mul_comm (2 ^ i) a]
theorem zb_or {g v h : Nat} (hh : h < 4) (hv : v < 16) : nI (g * 16 ^ (h + 1)) ||| (nI v <<< ((12 - (4 * nI (3 - h))) &&& 31)) = nI ((16 * g + v) * 16 ^ h) := by
  rcases (by omega : h = 0 ∨ h = 1 ∨ h = 2 ∨ h = 3) with rfl | rfl | rfl | rfl
  · rw [pk_shlN _ 0 (by decide) (by omega)]; exact zb_or4 0 hv
  · rw [pk_shlN _ 4 (by decide) (by omega)]; exact zb_or4 4 hv
  · rw [pk_shlN _ 8 (by decide) (by omega)]; exact zb_or4 8 hv
  · rw [pk_shlN _ 12 (by decide) (by omega)]; exact zb_or4 12 hv
theorem zb_K_nI {k : Nat} (h : k < 65536) : zb_K (nI k) := by
  refine ⟨nI_pos (by omega), ?_⟩
  intro hl
  rw [show (65535 : Int32) = nI 65535 from rfl, nI_ltI (by omega) (by omega)] at hl
  omega
theorem zb_K_of {x : Int32} (h : zb_K x) : ∃ k, k < 65536 ∧ x = nI k := by
  obtain ⟨j, hj, rfl⟩ := nI_of h.1
  refine ⟨j, ?_, rfl⟩
  have := h.2
  rw [show (65535 : Int32) = nI 65535 from rfl, nI_ltI (by omega) hj] at this
  omega
theorem zb_dv (k h : Nat) : k / 16 ^ (h + 1) = k / 16 ^ h / 16 := by rw [Nat.pow_succ, Nat.div_div_eq_div_mul]
theorem zb_dm (k h : Nat) : 16 * (k / 16 ^ (h + 1)) + k / 16 ^ h % 16 = k / 16 ^ h := by
  rw [zb_dv]; omega
theorem zb_p16 (h : Nat) : 0 < 16 ^ h := Nat.pow_pos (by omega)
theorem zb_dva (k a b : Nat) : k / 16 ^ a / 16 ^ b = k / 16 ^ (a + b) := by rw [Nat.div_div_eq_div_mul, Nat.pow_add]
theorem zb_mul_lt {g h k : Nat} (e : k / 16 ^ h = g) : g * 16 ^ h ≤ k := by
  rw [← e]; exact Nat.div_mul_le_self k _
theorem zb_mul_inj {a b h : Nat} (ha : a * 16 ^ h < 2 ^ 31) (hb : b * 16 ^ h < 2 ^ 31) : nI (a * 16 ^ h) = nI (b * 16 ^ h) ↔ a = b := by
  rw [nI_eq ha hb]
  exact ⟨fun e => Nat.eq_of_mul_eq_mul_right (zb_p16 h) e, fun e => by rw [e]⟩
/-! hashing -/
def zh_mx (h w : Int32) : Int32 := ((h ^^^ w) * (-1640531535)) ^^^ ((((h ^^^ w) * (-1640531535)).toUInt32 >>> ((15 : Int32).toUInt32 &&& Int32.toUInt32 31)).toInt32)
def zh_fn (b h : Int32) : Int32 := (h.toUInt32 >>> ((32 - b).toUInt32 &&& Int32.toUInt32 31)).toInt32
def zh_H (s b : Int32) (l : List Int32) : Int32 := zh_fn b (l.foldl zh_mx (s + 1))
def zh_kl (p : Nat → Bool) (x : Nat → Int32) : Nat → List Int32
  | 0 => []
  | n + 1 => zh_kl p x n ++ (if p n = true then [x n] else [])
theorem zh_kl_len (p : Nat → Bool) (x : Nat → Int32) : ∀ n, (zh_kl p x n).length = zb_cnt p n := by
  intro n
  induction n with
  | zero => rfl
  | succ n ih => rw [zh_kl, zb_cnt, List.length_append, ih]; split <;> rfl
theorem zh_kl_get {p : Nat → Bool} {x : Nat → Int32} {v : Nat} (hp : p v = true) : ∀ n, v < n → (zh_kl p x n)[zb_cnt p v]? = some (x v) := by
  intro n
  induction n with
  | zero => intro h; omega
  | succ n ih =>
    intro h
    rw [zh_kl]
    by_cases e : v = n
    · subst e
      rw [List.getElem?_append_right (by rw [zh_kl_len]; exact Nat.le_refl _), zh_kl_len, Nat.sub_self, if_pos hp]
      rfl
    · rw [List.getElem?_append_left (by rw [zh_kl_len]; exact zb_cnt_lt p (by omega) hp)]
      exact ih (by omega)
theorem zh_kl_ext {p q : Nat → Bool} {x y : Nat → Int32} : ∀ n, (∀ i, i < n → p i = q i) → (∀ i, i < n → p i = true → x i = y i) → zh_kl p x n = zh_kl q y n := by
  intro n
  induction n with
  | zero => intro _ _; rfl
  | succ n ih =>
    intro h h2
    rw [zh_kl, zh_kl, ih (fun i hi => h i (by omega)) (fun i hi => h2 i (by omega)), ← h n (by omega)]
    by_cases hp : p n = true
    · rw [if_pos hp, if_pos hp, h2 n (by omega) hp]
    · rw [if_neg hp, if_neg hp]
end
section
/-! the pure trie over a map mp: groups (h, g) of keys k with k / 16^h = g -/
def zt_oc (mp : Nat → Option Int32) : Nat → Nat → Bool
  | 0, g => (mp g).isSome
  | h + 1, g => decide (0 < zb_cnt (fun v => zt_oc mp h (16 * g + v)) 16)
def zt_p (mp : Nat → Option Int32) (h g : Nat) : Nat → Bool := fun v => zt_oc mp h (16 * g + v)
def zt_kc (mp : Nat → Option Int32) (h g : Nat) : Nat := zb_cnt (zt_p mp h g) 16
def zt_fk (mp : Nat → Option Int32) (h g : Nat) : Nat := 16 * g + zb_fst (zt_p mp h g) 16
def zt_nw (s b : Int32) (mp : Nat → Option Int32) : Nat → Nat → List Int32
  | 0, g => [1, nI g, (mp g).getD 0]
  | h + 1, g => if zt_kc mp h g = 1 then zt_nw s b mp h (zt_fk mp h g) else
      nI (5 - h) :: nI (g * 16 ^ (h + 1)) :: zb_mk (zt_p mp h g) 16 :: zh_kl (zt_p mp h g) (fun v => zh_H s b (zt_nw s b mp h (16 * g + v))) 16
theorem zt_oc_S (mp : Nat → Option Int32) (h g : Nat) : zt_oc mp (h + 1) g = true ↔ 0 < zt_kc mp h g := by
  show decide (0 < zt_kc mp h g) = true ↔ _
  rw [decide_eq_true_iff]
theorem zt_oc_iff (mp : Nat → Option Int32) : ∀ h g, zt_oc mp h g = true ↔ ∃ k, (mp k).isSome = true ∧ k / 16 ^ h = g := by
  intro h
  induction h with
  | zero =>
    intro g
    constructor
    · intro e; exact ⟨g, e, by rw [Nat.pow_zero, Nat.div_one]⟩
    · rintro ⟨k, hk, e⟩; rw [Nat.pow_zero, Nat.div_one] at e; subst e; exact hk
  | succ h ih =>
    intro g
    rw [zt_oc_S]
    constructor
    · intro e
      obtain ⟨hf, hp⟩ := zb_fst_ok 16 e
      obtain ⟨k, hk, e⟩ := (ih _).mp hp
      refine ⟨k, hk, ?_⟩
      rw [zb_dv, e]; omega
    · rintro ⟨k, hk, e⟩
      rw [zb_dv] at e
      refine zb_cnt_pos (i := k / 16 ^ h % 16) 16 (by omega) ?_
      refine (ih _).mpr ⟨k, hk, by omega⟩
theorem zt_oc_key {mp : Nat → Option Int32} {k : Nat} (hk : (mp k).isSome = true) (h : Nat) : zt_oc mp h (k / 16 ^ h) = true := (zt_oc_iff mp h _).mpr ⟨k, hk, rfl⟩
theorem zt_oc_up {mp : Nat → Option Int32} {h g : Nat} (e : zt_oc mp h g = true) (a : Nat) : zt_oc mp (h + a) (g / 16 ^ a) = true := by
  obtain ⟨k, hk, rfl⟩ := (zt_oc_iff mp h g).mp e
  rw [zb_dva]
  exact zt_oc_key hk _
theorem zt_oc_up1 {mp : Nat → Option Int32} {h g v : Nat} (hv : v < 16) (e : zt_oc mp h (16 * g + v) = true) : zt_oc mp (h + 1) g = true :=
  (zt_oc_S mp h g).mpr (zb_cnt_pos 16 hv e)
def zt_key (mp : Nat → Option Int32) : Prop := ∀ k, 65536 ≤ k → mp k = none
theorem zt_key_lt {mp : Nat → Option Int32} (K : zt_key mp) {k : Nat} (h : (mp k).isSome = true) : k < 65536 := by
  apply Classical.byContradiction
  intro hn
  rw [K k (by omega)] at h
  cases h
theorem zt_oc_lt {mp : Nat → Option Int32} (K : zt_key mp) {h g : Nat} (e : zt_oc mp h g = true) : g * 16 ^ h < 65536 := by
  obtain ⟨k, hk, e⟩ := (zt_oc_iff mp h g).mp e
  have := zt_key_lt K hk
  have := zb_mul_lt e
  omega
theorem zt_fk_ok {mp : Nat → Option Int32} {h g : Nat} (e : 0 < zt_kc mp h g) : zt_fk mp h g / 16 = g ∧ zt_oc mp h (zt_fk mp h g) = true := by
  obtain ⟨hf, hp⟩ := zb_fst_ok 16 e
  refine ⟨?_, hp⟩
  unfold zt_fk
  omega
/-- where one kid alone is there, an occupied group below g is that kid -/
theorem zt_fk_1 {mp : Nat → Option Int32} {h g g' : Nat} (e : zt_kc mp h g = 1) (ho : zt_oc mp h g' = true) (hg : g' / 16 = g) : g' = zt_fk mp h g := by
  have := zb_cnt_1 16 e (g' % 16) (by omega) (by show zt_oc mp h (16 * g + g' % 16) = true; rw [show 16 * g + g' % 16 = g' by omega]; exact ho)
  unfold zt_fk
  omega
/-- what a group is made of: an agreement of two maps on it -/
theorem zt_oc_ext {mp mq : Nat → Option Int32} : ∀ h g, (∀ k, k / 16 ^ h = g → mp k = mq k) → zt_oc mp h g = zt_oc mq h g := by
  intro h g H
  have : zt_oc mp h g = true ↔ zt_oc mq h g = true := by
    rw [zt_oc_iff, zt_oc_iff]
    constructor
    · rintro ⟨k, hk, e⟩; exact ⟨k, by rw [← H k e]; exact hk, e⟩
    · rintro ⟨k, hk, e⟩; exact ⟨k, by rw [H k e]; exact hk, e⟩
  cases ha : zt_oc mp h g <;> cases hb : zt_oc mq h g <;> simp_all
theorem zt_sub {mp mq : Nat → Option Int32} {h g v : Nat} (H : ∀ k, k / 16 ^ (h + 1) = g → mp k = mq k) (hv : v < 16) : ∀ k, k / 16 ^ h = 16 * g + v → mp k = mq k := by
  intro k e
  refine H k ?_
  rw [zb_dv, e]; omega
theorem zt_p_ext {mp mq : Nat → Option Int32} {h g : Nat} (H : ∀ k, k / 16 ^ (h + 1) = g → mp k = mq k) : ∀ v, v < 16 → zt_p mp h g v = zt_p mq h g v :=
  fun _ hv => zt_oc_ext h _ (zt_sub H hv)
theorem zt_kc_ext {mp mq : Nat → Option Int32} {h g : Nat} (H : ∀ k, k / 16 ^ (h + 1) = g → mp k = mq k) : zt_kc mp h g = zt_kc mq h g := zb_cnt_ext 16 (zt_p_ext H)
theorem zt_fk_ext {mp mq : Nat → Option Int32} {h g : Nat} (H : ∀ k, k / 16 ^ (h + 1) = g → mp k = mq k) : zt_fk mp h g = zt_fk mq h g := by
  unfold zt_fk; rw [zb_fst_ext 16 (zt_p_ext H)]
theorem zt_nw_ext {s b : Int32} {mp mq : Nat → Option Int32} : ∀ h g, zt_oc mp h g = true → (∀ k, k / 16 ^ h = g → mp k = mq k) → zt_nw s b mp h g = zt_nw s b mq h g := by
  intro h
  induction h with
  | zero => intro g _ H; rw [zt_nw, zt_nw, H g (by rw [Nat.pow_zero, Nat.div_one])]
  | succ h ih =>
    intro g ho H
    rw [zt_nw, zt_nw, ← zt_kc_ext H, ← zt_fk_ext H]
    have hpos := (zt_oc_S mp h g).mp ho
    by_cases e : zt_kc mp h g = 1
    · rw [if_pos e, if_pos e]
      obtain ⟨a, b⟩ := zt_fk_ok hpos
      refine ih _ b (fun k hk => H k ?_)
      rw [zb_dv, hk, a]
    · rw [if_neg e, if_neg e, zb_mk_ext 16 (zt_p_ext H)]
      rw [zh_kl_ext (q := zt_p mq h g) (y := fun v => zh_H s b (zt_nw s b mq h (16 * g + v))) 16 (zt_p_ext H)]
      intro v hv hp
      show zh_H s b _ = zh_H s b _
      rw [ih _ hp (zt_sub H hv)]
/-! ids: nd h g is the id of the node of group (h, g) -/
def zt_TL (mp : Nat → Option Int32) (nd : Nat → Nat → Nat) (tag second third : Nat → Int32) : Prop :=
  ∀ g, zt_oc mp 0 g = true → 1 ≤ nd 0 g ∧ nd 0 g < 32 ∧ tag (nd 0 g) = 1 ∧ second (nd 0 g) = nI g ∧ third (nd 0 g) = (mp g).getD 0
def zt_TB (mp : Nat → Option Int32) (nd : Nat → Nat → Nat) (tag second third kids : Nat → Int32) : Prop :=
  ∀ h g, h < 4 → 2 ≤ zt_kc mp h g → 1 ≤ nd (h + 1) g ∧ nd (h + 1) g < 32 ∧ tag (nd (h + 1) g) = nI (5 - h) ∧ second (nd (h + 1) g) = nI (g * 16 ^ (h + 1)) ∧
    third (nd (h + 1) g) = zb_mk (zt_p mp h g) 16 ∧ ∀ v, v < 16 → zt_oc mp h (16 * g + v) = true → kids (16 * nd (h + 1) g + v) = nI (nd h (16 * g + v))
def zt_TS (mp : Nat → Option Int32) (nd : Nat → Nat → Nat) : Prop := ∀ h g, h < 4 → zt_kc mp h g = 1 → nd (h + 1) g = nd h (zt_fk mp h g)
def zt_T (mp : Nat → Option Int32) (nd : Nat → Nat → Nat) (tag second third kids : Nat → Int32) : Prop :=
  zt_key mp ∧ zt_TL mp nd tag second third ∧ zt_TB mp nd tag second third kids ∧ zt_TS mp nd
def zt_TH (s b : Int32) (mp : Nat → Option Int32) (nd : Nat → Nat → Nat) (hash : Nat → Int32) : Prop :=
  ∀ h g, h ≤ 4 → zt_oc mp h g = true → hash (nd h g) = zh_H s b (zt_nw s b mp h g)
/-- the canonical node of a group: a leaf or a branch -/
theorem zt_can {mp : Nat → Option Int32} (s b : Int32) : ∀ h g, h ≤ 4 → zt_oc mp h g = true → ∃ c gc, c ≤ h ∧ gc / 16 ^ (h - c) = g ∧ zt_oc mp c gc = true ∧
    zt_nw s b mp h g = zt_nw s b mp c gc ∧ (c = 0 ∨ ∃ c', c = c' + 1 ∧ 2 ≤ zt_kc mp c' gc) ∧ ∀ nd, zt_TS mp nd → nd h g = nd c gc := by
  intro h
  induction h with
  | zero => intro g _ ho; exact ⟨0, g, Nat.le_refl 0, by rw [Nat.sub_self, Nat.pow_zero, Nat.div_one], ho, rfl, Or.inl rfl, fun _ _ => rfl⟩
  | succ h ih =>
    intro g hh ho
    have hpos := (zt_oc_S mp h g).mp ho
    by_cases e : zt_kc mp h g = 1
    · obtain ⟨ha, hb⟩ := zt_fk_ok hpos
      obtain ⟨c, gc, h1, h2, h3, h4, h5, h6⟩ := ih _ (by omega) hb
      refine ⟨c, gc, by omega, ?_, h3, ?_, h5, ?_⟩
      · rw [show h + 1 - c = (h - c) + 1 by omega, zb_dv, h2, ha]
      · rw [zt_nw, if_pos e, h4]
      · intro nd TS
        rw [TS h g (by omega) e, h6 nd TS]
    · exact ⟨h + 1, g, Nat.le_refl _, by rw [Nat.sub_self, Nat.pow_zero, Nat.div_one], ho, rfl, Or.inr ⟨h, rfl, by omega⟩, fun _ _ => rfl⟩
theorem zt_range {mp : Nat → Option Int32} {nd : Nat → Nat → Nat} {tag second third kids : Nat → Int32} (T : zt_T mp nd tag second third kids) {h g : Nat} (hh : h ≤ 4) (ho : zt_oc mp h g = true) : 1 ≤ nd h g ∧ nd h g < 32 := by
  obtain ⟨c, gc, h1, _, h3, _, h5, h6⟩ := zt_can 0 0 h g hh ho
  rw [h6 nd T.2.2.2]
  rcases h5 with rfl | ⟨c', rfl, hk⟩
  · have := T.2.1 gc h3
    exact ⟨this.1, this.2.1⟩
  · have := T.2.2.1 c' gc (by omega) hk
    exact ⟨this.1, this.2.1⟩
/-- X's node id holds the words ws -/
def zt_W (tag second third kids hash : Nat → Int32) (id : Nat) (ws : List Int32) : Prop :=
  id < 32 ∧ ((tag id = 0 ∧ ws = [0]) ∨ (tag id = 1 ∧ ws = [1, second id, third id]) ∨
    ∃ (h : Nat) (p : Nat → Bool) (x : Nat → Int32), h < 4 ∧ tag id = nI (5 - h) ∧ third id = zb_mk p 16 ∧ ws = tag id :: second id :: third id :: zh_kl p x 16 ∧
      ∀ v, v < 16 → p v = true → ∃ j, j < 32 ∧ kids (16 * id + v) = nI j ∧ hash j = x v)
theorem zt_W_of {s b : Int32} {mp : Nat → Option Int32} {nd : Nat → Nat → Nat} {tag second third kids hash : Nat → Int32} (T : zt_T mp nd tag second third kids) {h g : Nat} (hh : h ≤ 4) (ho : zt_oc mp h g = true)
    (H : ∀ a g', a < h → g' / 16 ^ (h - a) = g → zt_oc mp a g' = true → hash (nd a g') = zh_H s b (zt_nw s b mp a g')) : zt_W tag second third kids hash (nd h g) (zt_nw s b mp h g) := by
  obtain ⟨c, gc, h1, h2, h3, h4, h5, h6⟩ := zt_can s b h g hh ho
  rw [h6 nd T.2.2.2, h4]
  rcases h5 with rfl | ⟨c', rfl, hk⟩
  · obtain ⟨a1, a2, a3, a4, a5⟩ := T.2.1 gc h3
    refine ⟨a2, Or.inr (Or.inl ⟨a3, ?_⟩)⟩
    rw [zt_nw, a4, a5]
  · obtain ⟨a1, a2, a3, a4, a5, a6⟩ := T.2.2.1 c' gc (by omega) hk
    refine ⟨a2, Or.inr (Or.inr ⟨c', zt_p mp c' gc, fun v => zh_H s b (zt_nw s b mp c' (16 * gc + v)), by omega, a3, a5, ?_, ?_⟩)⟩
    · rw [zt_nw, if_neg (by omega), a3, a4, a5]
    · intro v hv hp
      have hp' : zt_oc mp c' (16 * gc + v) = true := hp
      refine ⟨nd c' (16 * gc + v), (zt_range T (by omega) hp').2, a6 v hv hp', H c' _ (by omega) ?_ hp'⟩
      rw [show h - c' = (1 + (h - (c' + 1))) by omega, ← zb_dva, Nat.pow_one, show (16 * gc + v) / 16 = gc by omega, h2]
theorem zt_W_TH {s b : Int32} {mp : Nat → Option Int32} {nd : Nat → Nat → Nat} {tag second third kids hash : Nat → Int32} (T : zt_T mp nd tag second third kids) (TH : zt_TH s b mp nd hash) {h g : Nat} (hh : h ≤ 4) (ho : zt_oc mp h g = true) :
    zt_W tag second third kids hash (nd h g) (zt_nw s b mp h g) := zt_W_of T hh ho (fun a g' ha _ ho' => TH a g' (by omega) ho')
/-! the way to a key k: the heights of its nodes -/
def zt_pl (mp : Nat → Option Int32) (k : Nat) : Nat → List Nat
  | 0 => [0]
  | h + 1 => if zt_kc mp h (k / 16 ^ (h + 1)) = 1 then (if zt_oc mp h (k / 16 ^ h) = true then zt_pl mp k h else [h + 1])
      else (h + 1) :: (if zt_oc mp h (k / 16 ^ h) = true then zt_pl mp k h else [])
theorem zt_pl_len (mp : Nat → Option Int32) (k : Nat) : ∀ h, (zt_pl mp k h).length ≤ h + 1 ∧ 1 ≤ (zt_pl mp k h).length := by
  intro h
  induction h with
  | zero => exact ⟨Nat.le_refl _, Nat.le_refl _⟩
  | succ h ih =>
    rw [zt_pl]
    split
    · split
      · omega
      · exact ⟨by show 1 ≤ _; omega, Nat.le_refl _⟩
    · split
      · rw [List.length_cons]; omega
      · exact ⟨by show 1 ≤ _; omega, Nat.le_refl _⟩
theorem zt_pl_oc {mp : Nat → Option Int32} {k : Nat} : ∀ h, zt_oc mp h (k / 16 ^ h) = true → ∀ a, a ∈ zt_pl mp k h → a ≤ h ∧ zt_oc mp a (k / 16 ^ a) = true := by
  intro h
  induction h with
  | zero => intro ho a ha; rw [zt_pl, List.mem_singleton] at ha; subst ha; exact ⟨Nat.le_refl _, ho⟩
  | succ h ih =>
    intro ho a ha
    rw [zt_pl] at ha
    split at ha
    · split at ha
      · rename_i h2
        have := ih h2 a ha
        exact ⟨by omega, this.2⟩
      · rw [List.mem_singleton] at ha; subst ha; exact ⟨Nat.le_refl _, ho⟩
    · rw [List.mem_cons] at ha
      rcases ha with rfl | ha
      · exact ⟨Nat.le_refl _, ho⟩
      · split at ha
        · rename_i h2
          have := ih h2 a ha
          exact ⟨by omega, this.2⟩
        · cases ha
/-- the ids on the way, and their words -/
def zt_ids (mp : Nat → Option Int32) (nd : Nat → Nat → Nat) (k : Nat) : List Nat := if zt_oc mp 4 0 = true then (zt_pl mp k 4).map (fun a => nd a (k / 16 ^ a)) else [0]
def zt_ws (s b : Int32) (mp : Nat → Option Int32) (k : Nat) : List (List Int32) := if zt_oc mp 4 0 = true then (zt_pl mp k 4).map (fun a => zt_nw s b mp a (k / 16 ^ a)) else [[0]]
end
section
/-! X's small methods -/
def zb_fork (a b : Int32) : Nat := if zb_D a 0 = zb_D b 0 then (if zb_D a 1 = zb_D b 1 then (if zb_D a 2 = zb_D b 2 then 3 else 2) else 1) else 0
theorem zb_tag : ∀ h, h < 4 → (¬ nI (5 - h) = 0) ∧ (¬ nI (5 - h) = 1) ∧ (¬ nI (5 - h) < 2) ∧ nI (5 - h) - 2 = nI (3 - h) ∧ 2 + nI (3 - h) = nI (5 - h) := by decide +kernel
theorem zb_ix (i v : Nat) : (nI i * 16) + nI v = nI (16 * i + v) := by
  rw [show (16 : Int32) = nI 16 from rfl, pk_mul, nI_add, Nat.mul_comm]
theorem zb_cB (m : Int32) {j : Nat} (hj : j < 32) : nI (zb_cnt (bt m) j) + zb_B m (nI j) = nI (zb_cnt (bt m) (j + 1)) := by
  rw [zb_B_bt m hj, zb_cnt]
  by_cases h : bt m j = true
  · rw [if_pos h, if_pos h, nI_1]
  · rw [if_neg h, if_neg h, Int32.add_zero]; rfl
theorem zb_sel {p : Nat → Bool} {x : Nat} : ∀ n, x < zb_cnt p n → ∃ v, v < n ∧ p v = true ∧ zb_cnt p v = x := by
  intro n
  induction n with
  | zero => intro h; exact absurd h (by rw [zb_cnt]; omega)
  | succ n ih =>
    intro h
    by_cases hl : x < zb_cnt p n
    · obtain ⟨v, h1, h2, h3⟩ := ih hl
      exact ⟨v, by omega, h2, h3⟩
    · rw [zb_cnt] at h
      by_cases hp : p n = true
      · rw [if_pos hp] at h
        exact ⟨n, by omega, hp, by omega⟩
      · rw [if_neg hp] at h; omega
section
variable {f_capacity f_seed f_bits f_freeCount f_top f_pairs f_pathLen f_status f_claimRoot f_claimKey f_fedLen f_node f_need f_running f_expected f_level : Int32} {a_tag a_second a_third a_hash a_kids a_freeIds a_path a_fed a_starts : Nat → Int32}
theorem zx_mix {post : Int32 → Prop} {h w : Int32} (H : post (zh_mx h w)) : wpX_mix post (f_capacity, f_seed, f_bits, f_freeCount, f_top, f_pairs, f_pathLen, f_status, f_claimRoot, f_claimKey, f_fedLen, f_node, f_need, f_running, f_expected, f_level, a_tag, a_second, a_third, a_hash, a_kids, a_freeIds, a_path, a_fed, a_starts) h w := nm_e H
theorem zx_finish {post : Int32 → Prop} {h : Int32} (H : post (zh_fn f_bits h)) : wpX_finish post (f_capacity, f_seed, f_bits, f_freeCount, f_top, f_pairs, f_pathLen, f_status, f_claimRoot, f_claimKey, f_fedLen, f_node, f_need, f_running, f_expected, f_level, a_tag, a_second, a_third, a_hash, a_kids, a_freeIds, a_path, a_fed, a_starts) h := H
theorem zx_mix3 {post : Int32 → Prop} {a b c : Int32} (H : post (zh_mx (zh_mx (zh_mx (f_seed + 1) a) b) c)) : wpX_mix3 post (f_capacity, f_seed, f_bits, f_freeCount, f_top, f_pairs, f_pathLen, f_status, f_claimRoot, f_claimKey, f_fedLen, f_node, f_need, f_running, f_expected, f_level, a_tag, a_second, a_third, a_hash, a_kids, a_freeIds, a_path, a_fed, a_starts) a b c := by
  unfold wpX_mix3
  dsimp only
  refine zx_mix ?_
  refine zx_mix ?_
  exact zx_mix H
theorem zx_isKey {post : Int32 → Prop} {x : Int32} (a : zb_K x → post 1) (b : ¬ zb_K x → post 0) : wpX_isKey post (f_capacity, f_seed, f_bits, f_freeCount, f_top, f_pairs, f_pathLen, f_status, f_claimRoot, f_claimKey, f_fedLen, f_node, f_need, f_running, f_expected, f_level, a_tag, a_second, a_third, a_hash, a_kids, a_freeIds, a_path, a_fed, a_starts) x :=
  br_c (fun h => b (fun z => z.1 h)) (fun h => br_c (fun h2 => b (fun z => z.2 h2)) (fun h2 => a ⟨h, h2⟩))
theorem zx_prefix {post : Int32 → Prop} {k d : Int32} (H : post (zb_P k d)) : wpX_prefix post (f_capacity, f_seed, f_bits, f_freeCount, f_top, f_pairs, f_pathLen, f_status, f_claimRoot, f_claimKey, f_fedLen, f_node, f_need, f_running, f_expected, f_level, a_tag, a_second, a_third, a_hash, a_kids, a_freeIds, a_path, a_fed, a_starts) k d := nm_e H
theorem zx_digit {post : Int32 → Prop} {k j : Int32} (H : post (zb_D k j)) : wpX_digit post (f_capacity, f_seed, f_bits, f_freeCount, f_top, f_pairs, f_pathLen, f_status, f_claimRoot, f_claimKey, f_fedLen, f_node, f_need, f_running, f_expected, f_level, a_tag, a_second, a_third, a_hash, a_kids, a_freeIds, a_path, a_fed, a_starts) k j := H
theorem zx_hasBit {post : Int32 → Prop} {m : Int32} {i : Nat} (hi : i < 32) (a : bt m i = true → post 1) (b : bt m i = false → post 0) : wpX_hasBit post (f_capacity, f_seed, f_bits, f_freeCount, f_top, f_pairs, f_pathLen, f_status, f_claimRoot, f_claimKey, f_fedLen, f_node, f_need, f_running, f_expected, f_level, a_tag, a_second, a_third, a_hash, a_kids, a_freeIds, a_path, a_fed, a_starts) m (nI i) := by
  cases h : bt m i with
  | true => exact br_f (c := zb_B m (nI i) = 0) (by rw [zb_B_t hi h]; exact zb_1ne0) (a h)
  | false => exact br_t (c := zb_B m (nI i) = 0) (zb_B_f hi h) (b h)
theorem zx_bitCount_l {post : Int32 → Prop} {m : Int32} (H : post (nI (zb_cnt (bt m) 16))) : ∀ d j, j + d = 16 → wX_bitCount_4 post m f_capacity f_seed f_bits f_freeCount f_top f_pairs f_pathLen f_status f_claimRoot f_claimKey f_fedLen f_node f_need f_running f_expected f_level a_tag a_second a_third a_hash a_kids a_freeIds a_path a_fed a_starts (d + 1) (nI (zb_cnt (bt m) j)) (nI j) := by
  intro d
  induction d with
  | zero =>
    intro j hj
    have : j = 16 := by omega
    subst this
    exact br_t (nI_le (a := 16) (b := 16) (by omega) (by omega)) H
  | succ d ih =>
    intro j hj
    exact br_f (nI_ge (a := j) (b := 16) (by omega) (by omega)) (nm_r (zb_cB m (by omega)) (nm_r (nI_1 j) (ih (j + 1) (by omega))))
theorem zx_bitCount {post : Int32 → Prop} {m : Int32} (H : post (nI (zb_cnt (bt m) 16))) : wpX_bitCount post (f_capacity, f_seed, f_bits, f_freeCount, f_top, f_pairs, f_pathLen, f_status, f_claimRoot, f_claimKey, f_fedLen, f_node, f_need, f_running, f_expected, f_level, a_tag, a_second, a_third, a_hash, a_kids, a_freeIds, a_path, a_fed, a_starts) m := ⟨17, zx_bitCount_l H 16 0 rfl⟩
theorem zx_rank {post : Int32 → Prop} {m : Int32} {n : Nat} (hn : n < 16) (H : post (nI (zb_cnt (bt m) n))) : wpX_rank post (f_capacity, f_seed, f_bits, f_freeCount, f_top, f_pairs, f_pathLen, f_status, f_claimRoot, f_claimKey, f_fedLen, f_node, f_need, f_running, f_expected, f_level, a_tag, a_second, a_third, a_hash, a_kids, a_freeIds, a_path, a_fed, a_starts) m (nI n) := zx_bitCount (by rw [zb_rank m hn]; exact H)
theorem zx_fork {post : Int32 → Prop} {a b : Int32} (H : post (nI (zb_fork a b))) : wpX_fork post (f_capacity, f_seed, f_bits, f_freeCount, f_top, f_pairs, f_pathLen, f_status, f_claimRoot, f_claimKey, f_fedLen, f_node, f_need, f_running, f_expected, f_level, a_tag, a_second, a_third, a_hash, a_kids, a_freeIds, a_path, a_fed, a_starts) a b := by
  refine ⟨4, ?_⟩
  unfold zb_fork at H
  refine br_f (nI_ge (a := 0) (b := 3) (by omega) (by omega)) ?_
  by_cases h0 : zb_D a 0 = zb_D b 0
  · rw [if_pos h0] at H
    refine br_t h0 (nm_e ?_)
    refine br_f (nI_ge (a := 1) (b := 3) (by omega) (by omega)) ?_
    by_cases h1 : zb_D a 1 = zb_D b 1
    · rw [if_pos h1] at H
      refine br_t h1 (nm_e ?_)
      refine br_f (nI_ge (a := 2) (b := 3) (by omega) (by omega)) ?_
      by_cases h2 : zb_D a 2 = zb_D b 2
      · rw [if_pos h2] at H
        refine br_t h2 (nm_e ?_)
        exact br_t (nI_le (a := 3) (b := 3) (by omega) (by omega)) H
      · rw [if_neg h2] at H
        exact br_f h2 H
    · rw [if_neg h1] at H
      exact br_f h1 H
  · rw [if_neg h0] at H
    exact br_f h0 H
theorem zx_covers {post : Int32 → Prop} {i : Nat} {key : Int32} (hi : i < 32) (a : ¬ a_tag i < 2 → a_second i = zb_P key (a_tag i - 2) → post 1) (b : (a_tag i < 2 ∨ ¬ a_second i = zb_P key (a_tag i - 2)) → post 0) : wpX_covers post (f_capacity, f_seed, f_bits, f_freeCount, f_top, f_pairs, f_pathLen, f_status, f_claimRoot, f_claimKey, f_fedLen, f_node, f_need, f_running, f_expected, f_level, a_tag, a_second, a_third, a_hash, a_kids, a_freeIds, a_path, a_fed, a_starts) (nI i) key := by
  have e : (nI i).toNatClampNeg = i := nI_clamp (by omega)
  have v : vp_in (nI i) 32 := vp_in_nI hi (by omega)
  unfold wpX_covers
  dsimp only
  rw [e]
  exact ⟨v, br_c (fun h => b (Or.inl h)) (fun h => ⟨v, v, zx_prefix (br_c (fun h2 => a h h2) (fun h2 => b (Or.inr h2)))⟩)⟩
theorem zx_next {post : Int32 → Prop} {i v : Nat} {key : Int32} (hi : i < 32) (hv : v < 16) (hd : zb_D key (a_tag i - 2) = nI v)
    (a : ¬ a_tag i < 2 → a_second i = zb_P key (a_tag i - 2) → bt (a_third i) v = true → post (a_kids (16 * i + v)))
    (b : (a_tag i < 2 ∨ (¬ a_second i = zb_P key (a_tag i - 2)) ∨ bt (a_third i) v = false) → post 0) : wpX_next post (f_capacity, f_seed, f_bits, f_freeCount, f_top, f_pairs, f_pathLen, f_status, f_claimRoot, f_claimKey, f_fedLen, f_node, f_need, f_running, f_expected, f_level, a_tag, a_second, a_third, a_hash, a_kids, a_freeIds, a_path, a_fed, a_starts) (nI i) key := by
  have e : (nI i).toNatClampNeg = i := nI_clamp (by omega)
  have w : vp_in (nI i) 32 := vp_in_nI hi (by omega)
  have w2 : vp_in ((nI i * 16) + nI v) 512 := by rw [zb_ix]; exact vp_in_nI (by omega) (by omega)
  have e2 : ((nI i * 16) + nI v).toNatClampNeg = 16 * i + v := by rw [zb_ix]; exact nI_clamp (by omega)
  unfold wpX_next
  dsimp only
  rw [e]
  refine zx_covers hi (fun h1 h2 => br_f zb_1ne0 ⟨w, zx_digit ?_⟩) (fun h => br_t rfl (b (h.imp id Or.inl)))
  rw [hd]
  refine ⟨w, zx_hasBit (by omega) (fun h => br_f zb_1ne0 ⟨w2, ?_⟩) (fun h => br_t rfl (b (Or.inr (Or.inr h))))⟩
  rw [e2]
  exact a h1 h2 h
end
end
section
/-! X's nodes: length, words, hash -/
section
variable {f_capacity f_seed f_bits f_freeCount f_top f_pairs f_pathLen f_status f_claimRoot f_claimKey f_fedLen f_node f_need f_running f_expected f_level : Int32} {a_tag a_second a_third a_hash a_kids a_freeIds a_path a_fed a_starts : Nat → Int32}
theorem zx_nodeLength {post : Int32 → Prop} {i : Nat} {ws : List Int32} (w : zt_W a_tag a_second a_third a_kids a_hash i ws) (H : post (nI ws.length)) : wpX_nodeLength post (f_capacity, f_seed, f_bits, f_freeCount, f_top, f_pairs, f_pathLen, f_status, f_claimRoot, f_claimKey, f_fedLen, f_node, f_need, f_running, f_expected, f_level, a_tag, a_second, a_third, a_hash, a_kids, a_freeIds, a_path, a_fed, a_starts) (nI i) := by
  obtain ⟨hi, w⟩ := w
  have e : (nI i).toNatClampNeg = i := nI_clamp (by omega)
  have v : vp_in (nI i) 32 := vp_in_nI hi (by omega)
  unfold wpX_nodeLength
  dsimp only
  rw [e]
  rcases w with ⟨h1, rfl⟩ | ⟨h1, rfl⟩ | ⟨h, p, x, hh, h1, h2, rfl, _⟩
  · exact ⟨v, br_t h1 H⟩
  · exact ⟨v, br_f (by rw [h1]; exact zb_1ne0) ⟨v, br_t h1 H⟩⟩
  · obtain ⟨t0, t1, _⟩ := zb_tag h hh
    refine ⟨v, br_f (by rw [h1]; exact t0) ⟨v, br_f (by rw [h1]; exact t1) ⟨v, zx_bitCount ?_⟩⟩⟩
    rw [h2, zb_cnt_ext (q := p) 16 (fun i hi => zb_mk_b hi), show (3 : Int32) = nI 3 from rfl, nI_add]
    rw [List.length_cons, List.length_cons, List.length_cons, zh_kl_len, show zb_cnt p 16 + 1 + 1 + 1 = 3 + zb_cnt p 16 by omega] at H
    exact H
theorem zx_childHash_l {post : Int32 → Prop} {i v : Nat} {p : Nat → Bool} (hi : i < 32) (hv : v < 16) (hp : p v = true) (h2 : ∀ w, w < 16 → bt (a_third i) w = p w)
    (hk : vp_in (a_kids (16 * i + v)) 32) (H : post (a_hash (a_kids (16 * i + v)).toNatClampNeg)) : ∀ d j n, j + d = v → d < n → wX_childHash_5 post (nI i) f_capacity f_seed f_bits f_freeCount f_top f_pairs f_pathLen f_status f_claimRoot f_claimKey f_fedLen f_node f_need f_running f_expected f_level a_tag a_second a_third a_hash a_kids a_freeIds a_path a_fed a_starts n (nI (zb_cnt p v - zb_cnt p j)) (nI j) := by
  have e : (nI i).toNatClampNeg = i := nI_clamp (by omega)
  have w : vp_in (nI i) 32 := vp_in_nI hi (by omega)
  intro d
  induction d with
  | zero =>
    intro j n hj hn
    obtain ⟨n, rfl⟩ : ∃ m, n = m + 1 := ⟨n - 1, by omega⟩
    have : j = v := by omega
    subst this
    have w2 : vp_in ((nI i * 16) + nI j) 512 := by rw [zb_ix]; exact vp_in_nI (by omega) (by omega)
    have e2 : ((nI i * 16) + nI j).toNatClampNeg = 16 * i + j := by rw [zb_ix]; exact nI_clamp (by omega)
    refine br_f (nI_ge (a := j) (b := 16) (by omega) (by omega)) ⟨w, ?_⟩
    rw [e]
    refine zx_hasBit (by omega) (fun _ => br_f zb_1ne0 (br_t (by rw [Nat.sub_self]; rfl) ⟨w2, ?_⟩)) (fun h => ?_)
    · rw [e2]; exact ⟨hk, H⟩
    · rw [h2 j hv, hp] at h; cases h
  | succ d ih =>
    intro j n hj hn
    obtain ⟨n, rfl⟩ : ∃ m, n = m + 1 := ⟨n - 1, by omega⟩
    have hc := zb_cnt_le p v
    refine br_f (nI_ge (a := j) (b := 16) (by omega) (by omega)) ⟨w, ?_⟩
    rw [e]
    refine zx_hasBit (by omega) (fun hb => br_f zb_1ne0 ?_) (fun hb => br_t rfl (nm_r (nI_1 j) ?_))
    · rw [h2 j (by omega)] at hb
      have h3 := zb_cnt_lt p (show j < v by omega) hb
      refine br_f (nI_ne0 (by omega) (by omega)) (nm_r (sb_m1 (by omega)) (nm_r (nI_1 j) ?_))
      have := ih (j + 1) n (by omega) (by omega)
      rw [zb_cnt, if_pos hb] at this
      rw [show zb_cnt p v - zb_cnt p j - 1 = zb_cnt p v - (zb_cnt p j + 1) by omega]
      exact this
    · rw [h2 j (by omega)] at hb
      have := ih (j + 1) n (by omega) (by omega)
      rw [zb_cnt, hb] at this
      exact this
theorem zx_nodeWord {post : Int32 → Prop} {i j : Nat} {ws : List Int32} {y : Int32} (w : zt_W a_tag a_second a_third a_kids a_hash i ws) (hy : ws[j]? = some y) (H : post y) : wpX_nodeWord post (f_capacity, f_seed, f_bits, f_freeCount, f_top, f_pairs, f_pathLen, f_status, f_claimRoot, f_claimKey, f_fedLen, f_node, f_need, f_running, f_expected, f_level, a_tag, a_second, a_third, a_hash, a_kids, a_freeIds, a_path, a_fed, a_starts) (nI i) (nI j) := by
  obtain ⟨hi, w⟩ := w
  have e : (nI i).toNatClampNeg = i := nI_clamp (by omega)
  have v : vp_in (nI i) 32 := vp_in_nI hi (by omega)
  unfold wpX_nodeWord
  dsimp only
  rw [e]
  have hj : j < ws.length := by
    apply Classical.byContradiction
    intro hn
    rw [List.getElem?_eq_none (by omega)] at hy
    cases hy
  rcases w with ⟨h1, rfl⟩ | ⟨h1, rfl⟩ | ⟨h, p, x, hh, h1, h2, rfl, h3⟩
  · have : j = 0 := by rw [List.length_singleton] at hj; omega
    subst this
    cases hy
    exact br_t rfl ⟨v, by rw [h1]; exact H⟩
  · rw [List.length_cons, List.length_cons, List.length_singleton] at hj
    rcases (by omega : j = 0 ∨ j = 1 ∨ j = 2) with rfl | rfl | rfl
    · cases hy; exact br_t rfl ⟨v, by rw [h1]; exact H⟩
    · cases hy; exact br_f (nI_ne0 (n := 1) (by omega) (by omega)) (br_t rfl ⟨v, H⟩)
    · cases hy; exact br_f (nI_ne0 (n := 2) (by omega) (by omega)) (br_f (by decide) (br_t rfl ⟨v, H⟩))
  · rcases (by omega : j = 0 ∨ j = 1 ∨ j = 2 ∨ 3 ≤ j) with rfl | rfl | rfl | h4
    · cases hy; exact br_t rfl ⟨v, H⟩
    · cases hy; exact br_f (nI_ne0 (n := 1) (by omega) (by omega)) (br_t rfl ⟨v, H⟩)
    · cases hy; exact br_f (nI_ne0 (n := 2) (by omega) (by omega)) (br_f (by decide) (br_t rfl ⟨v, H⟩))
    · obtain ⟨j, rfl⟩ : ∃ m, j = m + 3 := ⟨j - 3, by omega⟩
      rw [List.length_cons, List.length_cons, List.length_cons, zh_kl_len] at hj
      have hc := zb_cnt_le p 16
      obtain ⟨u, hu, hp, hq⟩ := zb_sel 16 (show j < zb_cnt p 16 by omega)
      have hg := zh_kl_get (x := x) hp 16 hu
      rw [hq] at hg
      rw [List.getElem?_cons_succ, List.getElem?_cons_succ, List.getElem?_cons_succ, hg] at hy
      cases hy
      obtain ⟨kk, k1, k2, k3⟩ := h3 u hu hp
      have n1 : ¬ nI (j + 3) = 1 := by rw [show (1 : Int32) = nI 1 from rfl, nI_eq (by omega) (by omega)]; omega
      have n2 : ¬ nI (j + 3) = 2 := by rw [show (2 : Int32) = nI 2 from rfl, nI_eq (by omega) (by omega)]; omega
      have n3 : nI (j + 3) - 3 = nI j := by rw [show (3 : Int32) = nI 3 from rfl, pk_sub (by omega)]; rfl
      refine br_f (nI_ne0 (by omega) (by omega)) (br_f n1 (br_f n2 ?_))
      rw [n3]
      have := zx_childHash_l (post := post) (f_capacity := f_capacity) (f_seed := f_seed) (f_bits := f_bits) (f_freeCount := f_freeCount) (f_top := f_top) (f_pairs := f_pairs) (f_pathLen := f_pathLen) (f_status := f_status) (f_claimRoot := f_claimRoot) (f_claimKey := f_claimKey) (f_fedLen := f_fedLen) (f_node := f_node) (f_need := f_need) (f_running := f_running) (f_expected := f_expected) (f_level := f_level) (a_tag := a_tag) (a_second := a_second) (a_third := a_third) (a_hash := a_hash) (a_kids := a_kids) (a_freeIds := a_freeIds) (a_path := a_path) (a_fed := a_fed) (a_starts := a_starts) hi hu hp (fun w hw => by rw [h2]; exact zb_mk_b hw) (by rw [k2]; exact vp_in_nI k1 (by omega)) (by rw [k2, nI_clamp (by omega), k3]; exact H) u 0 (u + 1) (by omega) (by omega)
      rw [show zb_cnt p u - zb_cnt p 0 = j by rw [zb_cnt]; omega] at this
      exact ⟨_, this⟩
theorem zx_rehash_l {post : SX → Prop} {i : Nat} {m : Int32} {p : Nat → Bool} {x : Nat → Int32} {h3 : Int32} (hi : i < 32) (h2 : ∀ w, w < 16 → bt m w = p w)
    (hk : ∀ v, v < 16 → p v = true → ∃ j, j < 32 ∧ a_kids (16 * i + v) = nI j ∧ a_hash j = x v)
    (H : post (f_capacity, f_seed, f_bits, f_freeCount, f_top, f_pairs, f_pathLen, f_status, f_claimRoot, f_claimKey, f_fedLen, f_node, f_need, f_running, f_expected, f_level, a_tag, a_second, a_third, upd a_hash i (zh_fn f_bits ((zh_kl p x 16).foldl zh_mx h3)), a_kids, a_freeIds, a_path, a_fed, a_starts)) : ∀ d j, j + d = 16 → wX_rehash_47 post (nI i) m f_capacity f_seed f_bits f_freeCount f_top f_pairs f_pathLen f_status f_claimRoot f_claimKey f_fedLen f_node f_need f_running f_expected f_level a_tag a_second a_third a_hash a_kids a_freeIds a_path a_fed a_starts (d + 1) ((zh_kl p x j).foldl zh_mx h3) (nI j) := by
  have e : (nI i).toNatClampNeg = i := nI_clamp (by omega)
  have w : vp_in (nI i) 32 := vp_in_nI hi (by omega)
  intro d
  induction d with
  | zero =>
    intro j hj
    have : j = 16 := by omega
    subst this
    refine br_t (nI_le (a := 16) (b := 16) (by omega) (by omega)) (zx_finish ⟨w, nm_e ?_⟩)
    rw [e]
    exact H
  | succ d ih =>
    intro j hj
    have ihj := ih (j + 1) (by omega)
    refine br_f (nI_ge (a := j) (b := 16) (by omega) (by omega)) (zx_hasBit (by omega) (fun hb => br_f zb_1ne0 ?_) (fun hb => br_t rfl (nm_r (nI_1 j) ?_)))
    · rw [h2 j (by omega)] at hb
      obtain ⟨q, q1, q2, q3⟩ := hk j (by omega) hb
      have w2 : vp_in ((nI i * 16) + nI j) 512 := by rw [zb_ix]; exact vp_in_nI (by omega) (by omega)
      have e2 : ((nI i * 16) + nI j).toNatClampNeg = 16 * i + j := by rw [zb_ix]; exact nI_clamp (by omega)
      refine ⟨w2, ?_⟩
      rw [e2, q2, nI_clamp (by omega), q3]
      refine ⟨vp_in_nI q1 (by omega), zx_mix (nm_r (nI_1 j) ?_)⟩
      rw [zh_kl, if_pos hb, List.foldl_append] at ihj
      exact ihj
    · rw [h2 j (by omega)] at hb
      rw [zh_kl, hb] at ihj
      rw [if_neg (by decide), List.append_nil] at ihj
      exact ihj
theorem zx_rehash {post : SX → Prop} {i : Nat} {ws : List Int32} (w : zt_W a_tag a_second a_third a_kids a_hash i ws) (h0 : ¬ a_tag i = 0) (H : post (f_capacity, f_seed, f_bits, f_freeCount, f_top, f_pairs, f_pathLen, f_status, f_claimRoot, f_claimKey, f_fedLen, f_node, f_need, f_running, f_expected, f_level, a_tag, a_second, a_third, upd a_hash i (zh_H f_seed f_bits ws), a_kids, a_freeIds, a_path, a_fed, a_starts)) : wpX_rehash post (f_capacity, f_seed, f_bits, f_freeCount, f_top, f_pairs, f_pathLen, f_status, f_claimRoot, f_claimKey, f_fedLen, f_node, f_need, f_running, f_expected, f_level, a_tag, a_second, a_third, a_hash, a_kids, a_freeIds, a_path, a_fed, a_starts) (nI i) := by
  obtain ⟨hi, w⟩ := w
  have e : (nI i).toNatClampNeg = i := nI_clamp (by omega)
  have v : vp_in (nI i) 32 := vp_in_nI hi (by omega)
  unfold wpX_rehash
  dsimp only
  rw [e]
  refine ⟨v, v, v, zx_mix3 ⟨v, ?_⟩⟩
  rcases w with ⟨h1, rfl⟩ | ⟨h1, rfl⟩ | ⟨h, p, x, hh, h1, h2, rfl, h3⟩
  · exact absurd h1 h0
  · refine br_t (by rw [h1]; decide) ⟨17, ?_⟩
    refine zx_rehash_l (p := fun _ => false) (x := fun _ => 0) hi (fun w _ => b_0 w) (fun _ _ h => by cases h) ?_ 16 0 rfl
    rw [show zh_kl (fun _ => false) (fun _ => 0) 16 = [] from rfl, h1]
    exact H
  · obtain ⟨t0, t1, t2, _⟩ := zb_tag h hh
    refine br_f (by rw [h1]; exact t2) ⟨v, nm_e ⟨17, ?_⟩⟩
    rw [zh_H, List.foldl_cons, List.foldl_cons, List.foldl_cons] at H
    exact zx_rehash_l (m := a_third i) (p := p) (x := x) (h3 := zh_mx (zh_mx (zh_mx (f_seed + 1) (a_tag i)) (a_second i)) (a_third i)) hi (fun w hw => by rw [h2]; exact zb_mk_b hw) h3 H 16 0 rfl
end
end
section
/-! Y's small methods -/
/-- the array t begins with the words ws -/
def zy_T (t : Nat → Int32) (ws : List Int32) : Prop := ∀ i y, ws[i]? = some y → t i = y
theorem zy_T_lt {ws : List Int32} {i : Nat} {y : Int32} (h : ws[i]? = some y) : i < ws.length := by
  apply Classical.byContradiction
  intro hn
  rw [List.getElem?_eq_none (by omega)] at h
  cases h
theorem zy_T_nil (t : Nat → Int32) : zy_T t [] := by intro i y h; cases h
theorem zy_T_snoc {t : Nat → Int32} {ws : List Int32} {x : Int32} (h : zy_T t ws) : zy_T (upd t ws.length x) (ws ++ [x]) := by
  intro i y hy
  have hl := zy_T_lt hy
  rw [List.length_append, List.length_singleton] at hl
  by_cases e : i = ws.length
  · subst e
    rw [List.getElem?_append_right (Nat.le_refl _), Nat.sub_self] at hy
    cases hy
    exact pk_us
  · rw [List.getElem?_append_left (by omega)] at hy
    rw [pk_un e]
    exact h i y hy
theorem zy_T_cons {t : Nat → Int32} {w : Int32} {ws : List Int32} (h : zy_T t (w :: ws)) : t 0 = w := h 0 w rfl
theorem zy_T_pre {t : Nat → Int32} {a b : List Int32} (h : zy_T t (a ++ b)) : zy_T t a := by
  intro i y hy
  refine h i y ?_
  rw [List.getElem?_append_left (zy_T_lt hy)]
  exact hy
theorem zy_T_keep {t : Nat → Int32} {ws : List Int32} {n : Nat} {x : Int32} (h : zy_T t ws) (hn : ws.length ≤ n) : zy_T (upd t n x) ws := by
  intro i y hy
  have := zy_T_lt hy
  rw [pk_un (by omega)]
  exact h i y hy
theorem zy_T_3 (t : Nat → Int32) (a b c : Int32) : zy_T (upd (upd (upd t 0 a) 1 b) 2 c) [a, b, c] := by
  have h1 : zy_T (upd t 0 a) [a] := zy_T_snoc (zy_T_nil t)
  have h2 : zy_T (upd (upd t 0 a) 1 b) [a, b] := zy_T_snoc h1
  exact zy_T_snoc h2
section
variable {f_capacity f_seed f_bits f_count f_tn f_proofLen f_proofNodes f_claim f_ck f_wn f_nodes f_claimed : Int32} {a_keys a_vals a_dig a_t a_proof a_proofStart a_w a_start : Nat → Int32}
theorem zy_prefix {post : Int32 → Prop} {k d : Int32} (H : post (zb_P k d)) : wpY_prefix post (f_capacity, f_seed, f_bits, f_count, f_tn, f_proofLen, f_proofNodes, f_claim, f_ck, f_wn, f_nodes, f_claimed, a_keys, a_vals, a_dig, a_t, a_proof, a_proofStart, a_w, a_start) k d := H
theorem zy_digit {post : Int32 → Prop} {k j : Int32} (H : post (zb_D k j)) : wpY_digit post (f_capacity, f_seed, f_bits, f_count, f_tn, f_proofLen, f_proofNodes, f_claim, f_ck, f_wn, f_nodes, f_claimed, a_keys, a_vals, a_dig, a_t, a_proof, a_proofStart, a_w, a_start) k j := H
theorem zy_isKey {post : Int32 → Prop} {x : Int32} (a : zb_K x → post 1) (b : ¬ zb_K x → post 0) : wpY_isKey post (f_capacity, f_seed, f_bits, f_count, f_tn, f_proofLen, f_proofNodes, f_claim, f_ck, f_wn, f_nodes, f_claimed, a_keys, a_vals, a_dig, a_t, a_proof, a_proofStart, a_w, a_start) x :=
  br_c (fun h => b (fun z => z.1 h)) (fun h => br_c (fun h2 => b (fun z => z.2 h2)) (fun h2 => a ⟨h, h2⟩))
theorem zy_three {post : SY → Prop} {a b c : Int32} (H : ∀ t, zy_T t [a, b, c] → post (f_capacity, f_seed, f_bits, f_count, 3, f_proofLen, f_proofNodes, f_claim, f_ck, f_wn, f_nodes, f_claimed, a_keys, a_vals, a_dig, t, a_proof, a_proofStart, a_w, a_start)) : wpY_three post (f_capacity, f_seed, f_bits, f_count, f_tn, f_proofLen, f_proofNodes, f_claim, f_ck, f_wn, f_nodes, f_claimed, a_keys, a_vals, a_dig, a_t, a_proof, a_proofStart, a_w, a_start) a b c :=
  nm_e (nm_e (nm_e (H _ (zy_T_3 a_t a b c))))
theorem zy_add {post : SY → Prop} {x : Int32} {ws : List Int32} (hl : ws.length < 20) (h : zy_T a_t ws) (H : ∀ t, zy_T t (ws ++ [x]) → post (f_capacity, f_seed, f_bits, f_count, nI (ws.length + 1), f_proofLen, f_proofNodes, f_claim, f_ck, f_wn, f_nodes, f_claimed, a_keys, a_vals, a_dig, t, a_proof, a_proofStart, a_w, a_start)) : wpY_add post (f_capacity, f_seed, f_bits, f_count, nI ws.length, f_proofLen, f_proofNodes, f_claim, f_ck, f_wn, f_nodes, f_claimed, a_keys, a_vals, a_dig, a_t, a_proof, a_proofStart, a_w, a_start) x := by
  refine br_f (nI_ge (a := ws.length) (b := 20) (by omega) (by omega)) ⟨vp_in_nI hl (by omega), nm_e (nm_r (nI_1 _) ?_)⟩
  rw [nI_clamp (by omega)]
  exact H _ (zy_T_snoc h)
theorem zy_ones_l {post : Int32 → Prop} {m : Int32} {n : Nat} (hn : n ≤ 16) (H : post (nI (zb_cnt (bt m) n))) : ∀ d j, j + d = n → wY_ones_5 post m (nI n) f_capacity f_seed f_bits f_count f_tn f_proofLen f_proofNodes f_claim f_ck f_wn f_nodes f_claimed a_keys a_vals a_dig a_t a_proof a_proofStart a_w a_start (d + 1) (nI (zb_cnt (bt m) j)) (nI j) := by
  intro d
  induction d with
  | zero =>
    intro j hj
    have : j = n := by omega
    subst this
    exact br_t (nI_le (a := j) (b := j) (by omega) (by omega)) H
  | succ d ih =>
    intro j hj
    exact br_f (nI_ge (a := j) (b := n) (by omega) (by omega)) (br_f (nI_ge (a := j) (b := 16) (by omega) (by omega)) (nm_r (zb_cB m (by omega)) (nm_r (nI_1 j) (ih (j + 1) (by omega)))))
theorem zy_ones {post : Int32 → Prop} {m : Int32} {n : Nat} (hn : n ≤ 16) (H : post (nI (zb_cnt (bt m) n))) : wpY_ones post (f_capacity, f_seed, f_bits, f_count, f_tn, f_proofLen, f_proofNodes, f_claim, f_ck, f_wn, f_nodes, f_claimed, a_keys, a_vals, a_dig, a_t, a_proof, a_proofStart, a_w, a_start) m (nI n) := ⟨n + 1, zy_ones_l hn H n 0 (by omega)⟩
theorem zy_hash_l {post : Int32 → Prop} {ws : List Int32} (hl : ws.length ≤ 20) (h : zy_T a_t ws) (H : post (zh_H f_seed f_bits ws)) : ∀ d j, j + d = ws.length → wY_hash_9 post f_capacity f_seed f_bits f_count (nI ws.length) f_proofLen f_proofNodes f_claim f_ck f_wn f_nodes f_claimed a_keys a_vals a_dig a_t a_proof a_proofStart a_w a_start (d + 1) ((ws.take j).foldl zh_mx (f_seed + 1)) (nI j) := by
  intro d
  induction d with
  | zero =>
    intro j hj
    have : j = ws.length := by omega
    subst this
    rw [List.take_length]
    exact br_t (nI_le (a := ws.length) (b := ws.length) (by omega) (by omega)) H
  | succ d ih =>
    intro j hj
    refine br_f (nI_ge (a := j) (b := ws.length) (by omega) (by omega)) ⟨vp_in_nI (by omega) (by omega), nm_e (nm_e (nm_r (nI_1 j) ?_))⟩
    have hg : ws[j]? = some (ws[j]'(by omega)) := List.getElem?_eq_getElem (by omega)
    have ihj := ih (j + 1) (by omega)
    rw [List.take_succ, hg, List.foldl_append, ← h j _ hg] at ihj
    rw [nI_clamp (by omega)]
    exact ihj
theorem zy_hash {post : Int32 → Prop} {ws : List Int32} (hl : ws.length ≤ 20) (h : zy_T a_t ws) (H : post (zh_H f_seed f_bits ws)) : wpY_hash post (f_capacity, f_seed, f_bits, f_count, nI ws.length, f_proofLen, f_proofNodes, f_claim, f_ck, f_wn, f_nodes, f_claimed, a_keys, a_vals, a_dig, a_t, a_proof, a_proofStart, a_w, a_start) := nm_e ⟨ws.length + 1, zy_hash_l hl h H ws.length 0 (by omega)⟩
end
/-- ws are the words of w from place a on -/
def zy_at (w : Nat → Int32) (a : Nat) (ws : List Int32) : Prop := ∀ i y, ws[i]? = some y → w (a + i) = y
def zy_seg (w : Nat → Int32) (a : Nat) : Nat → List Int32
  | 0 => []
  | n + 1 => zy_seg w a n ++ [w (a + n)]
theorem zy_seg_len (w : Nat → Int32) (a : Nat) : ∀ n, (zy_seg w a n).length = n := by
  intro n
  induction n with
  | zero => rfl
  | succ n ih => rw [zy_seg, List.length_append, ih]; rfl
theorem zy_seg_get {w : Nat → Int32} {a i : Nat} : ∀ n, i < n → (zy_seg w a n)[i]? = some (w (a + i)) := by
  intro n
  induction n with
  | zero => intro h; omega
  | succ n ih =>
    intro h
    rw [zy_seg]
    by_cases e : i = n
    · subst e
      rw [List.getElem?_append_right (by rw [zy_seg_len]; exact Nat.le_refl _), zy_seg_len, Nat.sub_self]; rfl
    · rw [List.getElem?_append_left (by rw [zy_seg_len]; omega)]
      exact ih (by omega)
theorem zy_seg_ext {w w' : Nat → Int32} {a : Nat} : ∀ n, (∀ i, i < n → w (a + i) = w' (a + i)) → zy_seg w a n = zy_seg w' a n := by
  intro n
  induction n with
  | zero => intro _; rfl
  | succ n ih => intro h; rw [zy_seg, zy_seg, ih (fun i hi => h i (by omega)), h n (by omega)]
section
variable {f_capacity f_seed f_bits f_count f_tn f_proofLen f_proofNodes f_claim f_ck f_wn f_nodes f_claimed : Int32} {a_keys a_vals a_dig a_t a_proof a_proofStart a_w a_start : Nat → Int32}
theorem zy_hashOf_l {post : Int32 → SY → Prop} {j q0 len : Nat} (hj : j < 5) (h1 : a_start j = nI q0) (h2 : a_start (j + 1) = nI (q0 + len)) (hl : len ≤ 20) (ha : q0 + len ≤ 100)
    (H : ∀ t, zy_T t (zy_seg a_w q0 len) → post (zh_H f_seed f_bits (zy_seg a_w q0 len)) (f_capacity, f_seed, f_bits, f_count, nI len, f_proofLen, f_proofNodes, f_claim, f_ck, f_wn, f_nodes, f_claimed, a_keys, a_vals, a_dig, t, a_proof, a_proofStart, a_w, a_start)) :
    ∀ d i t, i + d = len → zy_T t (zy_seg a_w q0 i) → wY_hashOf_5 post (nI j) f_capacity f_seed f_bits f_count f_proofLen f_proofNodes f_claim f_ck f_wn f_nodes f_claimed (d + 1) (nI i) a_keys a_vals a_dig t a_proof a_proofStart a_w a_start := by
  have ej : (nI j).toNatClampNeg = j := nI_clamp (by omega)
  have ej1 : (nI j + 1).toNatClampNeg = j + 1 := by rw [nI_1]; exact nI_clamp (by omega)
  have v1 : vp_in (nI j + 1) 6 := by rw [nI_1]; exact vp_in_nI (by omega) (by omega)
  have v0 : vp_in (nI j) 6 := vp_in_nI (by omega) (by omega)
  have es : nI (q0 + len) - nI q0 = nI len := by rw [pk_sub (by omega)]; exact congrArg nI (by omega)
  intro d
  induction d with
  | zero =>
    intro i t hi ht
    have : i = len := by omega
    subst this
    rw [wY_hashOf_5]
    dsimp only
    rw [ej, ej1, h1, h2, es]
    refine ⟨v1, v0, br_t (nI_le (Nat.le_refl _) (by omega)) ?_⟩
    have := zy_hash (post := fun r => post r (f_capacity, f_seed, f_bits, f_count, nI i, f_proofLen, f_proofNodes, f_claim, f_ck, f_wn, f_nodes, f_claimed, a_keys, a_vals, a_dig, t, a_proof, a_proofStart, a_w, a_start)) (f_capacity := f_capacity) (f_seed := f_seed) (f_bits := f_bits) (f_count := f_count) (f_proofLen := f_proofLen) (f_proofNodes := f_proofNodes) (f_claim := f_claim) (f_ck := f_ck) (f_wn := f_wn) (f_nodes := f_nodes) (f_claimed := f_claimed) (a_keys := a_keys) (a_vals := a_vals) (a_dig := a_dig) (a_t := t) (a_proof := a_proof) (a_proofStart := a_proofStart) (a_w := a_w) (a_start := a_start) (by rw [zy_seg_len]; exact hl) ht (H t ht)
    rw [zy_seg_len] at this
    exact this
  | succ d ih =>
    intro i t hi ht
    have ihj := ih (i + 1) (upd t i (a_w (q0 + i))) (by omega) (by
      have := zy_T_snoc (x := a_w (q0 + i)) ht
      rw [zy_seg_len] at this
      exact this)
    rw [wY_hashOf_5]
    dsimp only
    rw [ej, ej1, h1, h2, es]
    refine ⟨v1, v0, br_f (nI_ge (by omega) (by omega)) (br_f (nI_ge (a := i) (b := 20) (by omega) (by omega)) ?_)⟩
    rw [nI_add, nI_clamp (show q0 + i < 2 ^ 31 by omega), nI_clamp (show i < 2 ^ 31 by omega)]
    exact ⟨v0, vp_in_nI (by omega) (by omega), vp_in_nI (by omega) (by omega), nm_e (nm_r (nI_1 i) ihj)⟩
theorem zy_hashOf {post : Int32 → SY → Prop} {j q0 len : Nat} (hj : j < 5) (h1 : a_start j = nI q0) (h2 : a_start (j + 1) = nI (q0 + len)) (hl : len ≤ 20) (ha : q0 + len ≤ 100)
    (H : ∀ t, zy_T t (zy_seg a_w q0 len) → post (zh_H f_seed f_bits (zy_seg a_w q0 len)) (f_capacity, f_seed, f_bits, f_count, nI len, f_proofLen, f_proofNodes, f_claim, f_ck, f_wn, f_nodes, f_claimed, a_keys, a_vals, a_dig, t, a_proof, a_proofStart, a_w, a_start)) : wpY_hashOf post (f_capacity, f_seed, f_bits, f_count, f_tn, f_proofLen, f_proofNodes, f_claim, f_ck, f_wn, f_nodes, f_claimed, a_keys, a_vals, a_dig, a_t, a_proof, a_proofStart, a_w, a_start) (nI j) :=
  ⟨len + 1, zy_hashOf_l hj h1 h2 hl ha H len 0 a_t (by omega) (zy_T_nil _)⟩
/-- find: the least j with the same group as key, or -1 -/
theorem zy_find_l {post : Int32 → Prop} {d key : Int32} {n : Nat} (hn : n ≤ 16) (hc : f_count = nI n) (a : ∀ j, j < n → zb_P (a_keys j) d = zb_P key d → post (nI j)) (b : (∀ j, j < n → ¬ zb_P (a_keys j) d = zb_P key d) → post (-1)) :
    ∀ e j, j + e = n → (∀ i, i < j → ¬ zb_P (a_keys i) d = zb_P key d) → wY_find_2 post d key f_capacity f_seed f_bits f_count f_tn f_proofLen f_proofNodes f_claim f_ck f_wn f_nodes f_claimed a_keys a_vals a_dig a_t a_proof a_proofStart a_w a_start (e + 1) (nI j) := by
  subst hc
  intro e
  induction e with
  | zero =>
    intro j hj h
    have : j = n := by omega
    subst this
    exact br_t (nI_le (Nat.le_refl _) (by omega)) (b h)
  | succ e ih =>
    intro j hj h
    refine br_f (nI_ge (by omega) (by omega)) ⟨vp_in_nI (by omega) (by omega), ?_⟩
    rw [nI_clamp (by omega)]
    refine zy_prefix (zy_prefix (br_c (fun h2 => a j (by omega) h2) (fun h2 => nm_r (nI_1 j) (ih (j + 1) (by omega) ?_))))
    intro i hi
    by_cases ei : i = j
    · subst ei; exact h2
    · exact h i (by omega)
theorem zy_find {post : Int32 → Prop} {d key : Int32} {n : Nat} (hn : n ≤ 16) (hc : f_count = nI n) (a : ∀ j, j < n → zb_P (a_keys j) d = zb_P key d → post (nI j)) (b : (∀ j, j < n → ¬ zb_P (a_keys j) d = zb_P key d) → post (-1)) : wpY_find post (f_capacity, f_seed, f_bits, f_count, f_tn, f_proofLen, f_proofNodes, f_claim, f_ck, f_wn, f_nodes, f_claimed, a_keys, a_vals, a_dig, a_t, a_proof, a_proofStart, a_w, a_start) d key :=
  ⟨n + 1, zy_find_l hn hc a b n 0 (by omega) (fun i hi => absurd hi (by omega))⟩
end
end
section
/-! X's way to a key -/
def zx_PA (tag second third kids hash pa : Nat → Int32) (wss : List (List Int32)) : Prop :=
  ∀ i ws, wss[i]? = some ws → ∃ id, pa i = nI id ∧ zt_W tag second third kids hash id ws
theorem zt_k4 {k : Nat} (hk : k < 65536) : k / 16 ^ 4 = 0 := by
  rw [show 16 ^ 4 = 65536 from rfl]; omega
theorem zt_gl {mp : Nat → Option Int32} (K : zt_key mp) {h g : Nat} (e : zt_oc mp h g = true) : g * 16 ^ h < 2 ^ 31 := by
  have := zt_oc_lt K e; omega
theorem zt_kl {k h : Nat} (hk : k < 65536) : k / 16 ^ h * 16 ^ h < 2 ^ 31 := by
  have := Nat.div_mul_le_self k (16 ^ h); omega
/-- a group's node whose group lies beside k, or whose kid on the way is not there, ends the way -/
theorem zt_stop {mp : Nat → Option Int32} {nd : Nat → Nat → Nat} {tag second third kids : Nat → Int32} {k : Nat} (T : zt_T mp nd tag second third kids) (hk : k < 65536) {h : Nat} (hh : h + 1 ≤ 4) (e : zt_kc mp h (k / 16 ^ (h + 1)) = 1)
    (ho : zt_oc mp (h + 1) (k / 16 ^ (h + 1)) = true) (hn : ¬ zt_oc mp h (k / 16 ^ h) = true) (h1 : ¬ tag (nd (h + 1) (k / 16 ^ (h + 1))) < 2)
    (h2 : second (nd (h + 1) (k / 16 ^ (h + 1))) = zb_P (nI k) (tag (nd (h + 1) (k / 16 ^ (h + 1))) - 2)) : False := by
  obtain ⟨c, gc, c1, c2, c3, _, c5, c6⟩ := zt_can 0 0 (h + 1) _ hh ho
  rw [c6 nd T.2.2.2] at h1 h2
  rcases c5 with rfl | ⟨c', rfl, c5⟩
  · obtain ⟨_, _, a3, _⟩ := T.2.1 gc c3
    rw [a3] at h1
    exact h1 (by decide)
  · obtain ⟨_, _, a3, a4, _⟩ := T.2.2.1 c' gc (by omega) c5
    rw [a3, a4, (zb_tag c' (by omega)).2.2.2.1, show 3 - c' = 4 - (c' + 1) by omega, zb_P_nI hk (by omega), zb_mul_inj (zt_gl T.1 c3) (zt_kl hk)] at h2
    by_cases ec : c' = h
    · subst ec
      rw [Nat.sub_self, Nat.pow_zero, Nat.div_one] at c2
      rw [c2] at c5
      omega
    · have := zt_oc_up c3 (h - (c' + 1))
      rw [h2, zb_dva, show c' + 1 + (h - (c' + 1)) = h by omega] at this
      exact hn this
theorem zy_T_lt' {α : Type} {ws : List α} {i : Nat} {y : α} (h : ws[i]? = some y) : i < ws.length := by
  apply Classical.byContradiction
  intro hn
  rw [List.getElem?_eq_none (by omega)] at h
  cases h
theorem zt_W_len {tag second third kids hash : Nat → Int32} {id : Nat} {ws : List Int32} (w : zt_W tag second third kids hash id ws) : ws.length ≤ 19 := by
  obtain ⟨_, ⟨_, rfl⟩ | ⟨_, rfl⟩ | ⟨h, p, x, _, _, _, rfl, _⟩⟩ := w
  · show 1 ≤ 19; omega
  · show 3 ≤ 19; omega
  · rw [List.length_cons, List.length_cons, List.length_cons, zh_kl_len]
    have := zb_cnt_le p 16
    omega
section
variable {f_capacity f_seed f_bits f_freeCount f_top f_pairs f_pathLen f_status f_claimRoot f_claimKey f_fedLen f_node f_need f_running f_expected f_level : Int32} {a_tag a_second a_third a_hash a_kids a_freeIds a_path a_fed a_starts : Nat → Int32}
theorem zx_descend_l {post : SX → Prop} {mp : Nat → Option Int32} {nd : Nat → Nat → Nat} {k : Nat} (T : zt_T mp nd a_tag a_second a_third a_kids) (hk : k < 65536) :
    ∀ h, h ≤ 4 → zt_oc mp h (k / 16 ^ h) = true → ∀ n s pl (pa : Nat → Int32), s + h ≤ 4 → h < n →
      (∀ pa' : Nat → Int32, (∀ i, i < s → pa' i = pa i) → (∀ i a, (zt_pl mp k h)[i]? = some a → pa' (s + i) = nI (nd a (k / 16 ^ a))) → post (f_capacity, f_seed, f_bits, f_freeCount, f_top, f_pairs, nI (s + (zt_pl mp k h).length), f_status, f_claimRoot, f_claimKey, f_fedLen, f_node, f_need, f_running, f_expected, f_level, a_tag, a_second, a_third, a_hash, a_kids, a_freeIds, pa', a_fed, a_starts)) →
      wX_descend_12 post (nI k) f_capacity f_seed f_bits f_freeCount f_top f_pairs f_status f_claimRoot f_claimKey f_fedLen f_node f_need f_running f_expected f_level n (nI (nd h (k / 16 ^ h))) (nI s) pl a_tag a_second a_third a_hash a_kids a_freeIds pa a_fed a_starts := by
  intro h
  induction h with
  | zero =>
    intro hh ho n s pl pa hs hn H
    obtain ⟨n, rfl⟩ : ∃ m, n = m + 1 := ⟨n - 1, by omega⟩
    obtain ⟨a1, a2, a3, a4, a5⟩ := T.2.1 _ ho
    obtain ⟨v, hv, hd⟩ := zb_D_in (nI k) (a_tag (nd 0 (k / 16 ^ 0)) - 2)
    refine br_f (nI_ge (a := s) (b := 5) (by omega) (by omega)) ⟨vp_in_nI (by omega) (by omega), nm_e (nm_r (nI_1 s) (zx_next a2 hv hd (fun h1 _ _ => absurd (by rw [a3]; decide) h1) (fun _ => br_t rfl ?_)))⟩
    rw [nI_clamp (by omega)]
    refine H _ (fun i hi => pk_un (by omega)) ?_
    intro i a hi
    have := zy_T_lt' hi
    rw [zt_pl] at hi this
    have : i = 0 := by rw [List.length_singleton] at this; omega
    subst this
    cases hi
    exact pk_us
  | succ h ih =>
    intro hh ho n s pl pa hs hn H
    have hpos := (zt_oc_S mp h _).mp ho
    by_cases e : zt_kc mp h (k / 16 ^ (h + 1)) = 1
    · by_cases o : zt_oc mp h (k / 16 ^ h) = true
      · rw [T.2.2.2 h _ (by omega) e, ← zt_fk_1 e o (zb_dv k h).symm]
        refine ih (by omega) o n s pl pa (by omega) (by omega) ?_
        rw [zt_pl, if_pos e, if_pos o] at H
        exact H
      · obtain ⟨n, rfl⟩ : ∃ m, n = m + 1 := ⟨n - 1, by omega⟩
        have hr := zt_range T hh ho
        obtain ⟨v, hv, hd⟩ := zb_D_in (nI k) (a_tag (nd (h + 1) (k / 16 ^ (h + 1))) - 2)
        refine br_f (nI_ge (a := s) (b := 5) (by omega) (by omega)) ⟨vp_in_nI (by omega) (by omega), nm_e (nm_r (nI_1 s) (zx_next hr.2 hv hd (fun h1 h2 _ => (zt_stop T hk hh e ho o h1 h2).elim) (fun _ => br_t rfl ?_)))⟩
        rw [nI_clamp (by omega)]
        rw [zt_pl, if_pos e, if_neg o] at H
        refine H _ (fun i hi => pk_un (by omega)) ?_
        intro i a hi
        have := zy_T_lt' hi
        have : i = 0 := by rw [List.length_singleton] at this; omega
        subst this
        cases hi
        exact pk_us
    · obtain ⟨n, rfl⟩ : ∃ m, n = m + 1 := ⟨n - 1, by omega⟩
      obtain ⟨a1, a2, a3, a4, a5, a6⟩ := T.2.2.1 h _ (by omega) (show 2 ≤ zt_kc mp h (k / 16 ^ (h + 1)) by omega)
      have hd : zb_D (nI k) (a_tag (nd (h + 1) (k / 16 ^ (h + 1))) - 2) = nI (k / 16 ^ h % 16) := by
        rw [a3, (zb_tag h (by omega)).2.2.2.1, zb_D_nI hk (by omega)]
      have hb : bt (a_third (nd (h + 1) (k / 16 ^ (h + 1)))) (k / 16 ^ h % 16) = zt_oc mp h (k / 16 ^ h) := by
        rw [a5, zb_mk_b (by omega)]
        show zt_oc mp h (16 * (k / 16 ^ (h + 1)) + k / 16 ^ h % 16) = _
        rw [zb_dm]
      have hs2 : a_second (nd (h + 1) (k / 16 ^ (h + 1))) = zb_P (nI k) (a_tag (nd (h + 1) (k / 16 ^ (h + 1))) - 2) := by
        rw [a3, a4, (zb_tag h (by omega)).2.2.2.1, show 3 - h = 4 - (h + 1) by omega, zb_P_nI hk (by omega)]
      have ht2 : ¬ a_tag (nd (h + 1) (k / 16 ^ (h + 1))) < 2 := by rw [a3]; exact (zb_tag h (by omega)).2.2.1
      refine br_f (nI_ge (a := s) (b := 5) (by omega) (by omega)) ⟨vp_in_nI (by omega) (by omega), nm_e (nm_r (nI_1 s) (zx_next a2 (by omega) hd (fun h1 h2 h3 => ?_) (fun hz => br_t rfl ?_)))⟩
      · rw [hb] at h3
        have hv := a6 (k / 16 ^ h % 16) (by omega) (by rw [zb_dm]; exact h3)
        rw [zb_dm] at hv
        rw [hv]
        have hr := zt_range T (show h ≤ 4 by omega) h3
        refine br_f (nI_ne0 (by omega) (by omega)) (nm_r (nI_1 s) ?_)
        rw [nI_clamp (by omega)]
        refine ih (by omega) h3 n (s + 1) _ _ (by omega) (by omega) ?_
        intro pa' p1 p2
        rw [zt_pl, if_neg e, if_pos h3, List.length_cons] at H
        rw [show s + 1 + (zt_pl mp k h).length = s + ((zt_pl mp k h).length + 1) by omega]
        refine H pa' (fun i hi => (p1 i (by omega)).trans (pk_un (by omega))) ?_
        intro i a hi
        rcases i with _ | i
        · cases hi
          exact (p1 s (by omega)).trans pk_us
        · have := p2 i a hi
          rw [show s + (i + 1) = s + 1 + i by omega]
          exact this
      · have o : ¬ zt_oc mp h (k / 16 ^ h) = true := by
          rcases hz with hz | hz | hz
          · exact absurd hz ht2
          · exact absurd hs2 hz
          · rw [hb] at hz; rw [hz]; decide
        rw [nI_clamp (by omega)]
        rw [zt_pl, if_neg e, if_neg o] at H
        refine H _ (fun i hi => pk_un (by omega)) ?_
        intro i a hi
        have := zy_T_lt' hi
        have : i = 0 := by rw [List.length_singleton] at this; omega
        subst this
        cases hi
        exact pk_us
theorem zx_descend {post : SX → Prop} {mp : Nat → Option Int32} {nd : Nat → Nat → Nat} {k : Nat} (T : zt_T mp nd a_tag a_second a_third a_kids) (hk : k < 65536) (htop : f_top = nI (if zt_oc mp 4 0 = true then nd 4 0 else 0)) (ht0 : a_tag 0 = 0)
    (H : ∀ pa' : Nat → Int32, (∀ i a, (zt_ids mp nd k)[i]? = some a → pa' i = nI a) → post (f_capacity, f_seed, f_bits, f_freeCount, f_top, f_pairs, nI (zt_ids mp nd k).length, f_status, f_claimRoot, f_claimKey, f_fedLen, f_node, f_need, f_running, f_expected, f_level, a_tag, a_second, a_third, a_hash, a_kids, a_freeIds, pa', a_fed, a_starts)) : wpX_descend post (f_capacity, f_seed, f_bits, f_freeCount, f_top, f_pairs, f_pathLen, f_status, f_claimRoot, f_claimKey, f_fedLen, f_node, f_need, f_running, f_expected, f_level, a_tag, a_second, a_third, a_hash, a_kids, a_freeIds, a_path, a_fed, a_starts) (nI k) := by
  subst htop
  by_cases o : zt_oc mp 4 0 = true
  · refine ⟨5, ?_⟩
    rw [if_pos o]
    have o' : zt_oc mp 4 (k / 16 ^ 4) = true := by rw [zt_k4 hk]; exact o
    have := zx_descend_l (post := post) (f_capacity := f_capacity) (f_seed := f_seed) (f_bits := f_bits) (f_freeCount := f_freeCount) (f_top := nI (if zt_oc mp 4 0 = true then nd 4 0 else 0)) (f_pairs := f_pairs) (f_status := f_status) (f_claimRoot := f_claimRoot) (f_claimKey := f_claimKey) (f_fedLen := f_fedLen) (f_node := f_node) (f_need := f_need) (f_running := f_running) (f_expected := f_expected) (f_level := f_level) (a_hash := a_hash) (a_freeIds := a_freeIds) (a_fed := a_fed) (a_starts := a_starts) T hk 4 (by omega) o' 5 0 0 a_path (by omega) (by omega) (by
      intro pa' _ p2
      rw [zt_ids, if_pos o, List.length_map] at H
      rw [Nat.zero_add]
      refine H pa' ?_
      intro i a hi
      rw [List.getElem?_map] at hi
      cases hq : (zt_pl mp k 4)[i]? with
      | none => rw [hq] at hi; cases hi
      | some q =>
        rw [hq] at hi
        cases hi
        have := p2 i q hq
        rw [Nat.zero_add] at this
        exact this)
    rw [zt_k4 hk, if_pos o] at this
    exact this
  · refine ⟨1, ?_⟩
    rw [if_neg o]
    rw [zt_ids, if_neg o, if_neg o] at H
    obtain ⟨v, hv, hd⟩ := zb_D_in (nI k) (a_tag 0 - 2)
    refine br_f (nI_ge (a := 0) (b := 5) (by omega) (by omega)) ⟨vp_in_nI (n := 0) (by omega) (by omega), nm_e (nm_r (nI_1 0) (zx_next (i := 0) (by omega) hv hd (fun h1 _ _ => absurd (by rw [ht0]; decide) h1) (fun _ => br_t rfl ?_)))⟩
    refine H _ ?_
    intro i a hi
    have := zy_T_lt' hi
    have : i = 0 := by rw [List.length_singleton] at this; omega
    subst this
    cases hi
    exact pk_us
/-- word i of the nodes on the path -/
theorem zx_pathWord_l {post : Int64 → Prop} {wss : List (List Int32)} (P : zx_PA a_tag a_second a_third a_kids a_hash a_path wss) (hl : wss.length ≤ 5) : ∀ d s x, s + d = wss.length → x < 2 ^ 31 →
    (∀ y, ((wss.drop s).flatten)[x]? = some y → post y.toInt64) → (((wss.drop s).flatten)[x]? = none → post 4294967296) → wX_pathWord_4 post f_capacity f_seed f_bits f_freeCount f_top f_pairs (nI wss.length) f_status f_claimRoot f_claimKey f_fedLen f_node f_need f_running f_expected f_level a_tag a_second a_third a_hash a_kids a_freeIds a_path a_fed a_starts (d + 1) (nI x) (nI s) := by
  intro d
  induction d with
  | zero =>
    intro s x hs hx a b
    refine br_t (nI_le (by omega) (by omega)) (b ?_)
    rw [List.drop_eq_nil_of_le (by omega)]
    rfl
  | succ d ih =>
    intro s x hs hx a b
    have hd := List.drop_eq_getElem_cons (l := wss) (i := s) (by omega)
    have hg : wss[s]? = some (wss[s]'(by omega)) := List.getElem?_eq_getElem (by omega)
    generalize wss[s]'(by omega) = ws at hd hg
    obtain ⟨id, p1, p2⟩ := P s ws hg
    have hlen : ws.length ≤ 19 := zt_W_len p2
    refine br_f (nI_ge (by omega) (by omega)) ⟨vp_in_nI (by omega) (by omega), ?_⟩
    rw [nI_clamp (by omega), p1]
    refine zx_nodeLength p2 ?_
    rw [hd, List.flatten_cons] at a b
    by_cases hx2 : ws.length ≤ x
    · refine br_t (nI_le hx2 hx) (nm_r (pk_sub hx2) (nm_r (nI_1 s) (ih (s + 1) (x - ws.length) (by omega) (by omega) ?_ ?_)))
      · intro y hy
        refine a y ?_
        rw [List.getElem?_append_right hx2]
        exact hy
      · intro hy
        refine b ?_
        rw [List.getElem?_append_right hx2]
        exact hy
    · refine br_f (nI_ge (by omega) (by omega)) ⟨vp_in_nI (by omega) (by omega), ?_⟩
      have hy : ws[x]? = some (ws[x]'(by omega)) := List.getElem?_eq_getElem (by omega)
      refine zx_nodeWord p2 hy (a _ ?_)
      rw [List.getElem?_append_left (by omega)]
      exact hy
theorem zx_pathWord {post : Int64 → Prop} {wss : List (List Int32)} (P : zx_PA a_tag a_second a_third a_kids a_hash a_path wss) (hl : wss.length ≤ 5) {x : Nat} (hx : x < 2 ^ 31)
    (a : ∀ y, (wss.flatten)[x]? = some y → post y.toInt64) (b : (wss.flatten)[x]? = none → post 4294967296) : wpX_pathWord post (f_capacity, f_seed, f_bits, f_freeCount, f_top, f_pairs, nI wss.length, f_status, f_claimRoot, f_claimKey, f_fedLen, f_node, f_need, f_running, f_expected, f_level, a_tag, a_second, a_third, a_hash, a_kids, a_freeIds, a_path, a_fed, a_starts) (nI x) :=
  ⟨wss.length + 1, zx_pathWord_l P hl wss.length 0 x (by omega) hx a b⟩
end
end
section
/-! Y's build, root, prove -/
def zy_M (mp : Nat → Option Int32) (keys vals : Nat → Int32) (n : Nat) (kk : Nat → Nat) : Prop :=
  n ≤ 16 ∧ (∀ j, j < n → kk j < 65536 ∧ keys j = nI (kk j) ∧ mp (kk j) = some (vals j)) ∧ (∀ k, (mp k).isSome = true → ∃ j, j < n ∧ kk j = k) ∧ (∀ i j, i < n → j < n → kk i = kk j → i = j)
def zy_D (s b : Int32) (mp : Nat → Option Int32) (kk : Nat → Nat) (n : Nat) (dig : Nat → Int32) (h : Nat) : Prop :=
  ∀ a j, a < h → j < n → dig (16 * (4 - a) + j) = zh_H s b (zt_nw s b mp a (kk j / 16 ^ a))
theorem zt_nw_at {s b : Int32} {mp : Nat → Option Int32} {k c : Nat} (hk : (mp k).isSome = true) (hc : c = 0 ∨ ∃ k', (mp k').isSome = true ∧ k' / 16 ^ c = k / 16 ^ c ∧ ¬ k' / 16 ^ (c - 1) = k / 16 ^ (c - 1)) :
    ∀ d, (∀ k', (mp k').isSome = true → k' / 16 ^ (c + d) = k / 16 ^ (c + d) → k' / 16 ^ c = k / 16 ^ c) → zt_nw s b mp (c + d) (k / 16 ^ (c + d)) = zt_nw s b mp c (k / 16 ^ c) ∧ ∀ c', c = c' + 1 → 2 ≤ zt_kc mp c' (k / 16 ^ c) := by
  intro d
  induction d with
  | zero =>
    intro H
    refine ⟨rfl, ?_⟩
    intro c' ec
    subst ec
    rcases hc with hc | ⟨k', k1, k2, k3⟩
    · omega
    · rw [Nat.add_sub_cancel] at k3
      have e1 := zb_dm k c'
      have e2 := zb_dm k' c'
      rw [k2] at e2
      refine zb_cnt_2 (i := k / 16 ^ c' % 16) (j := k' / 16 ^ c' % 16) (by omega) (by omega) (by omega) ?_ ?_
      · show zt_oc mp c' (16 * (k / 16 ^ (c' + 1)) + k / 16 ^ c' % 16) = true
        rw [e1]; exact zt_oc_key hk c'
      · show zt_oc mp c' (16 * (k / 16 ^ (c' + 1)) + k' / 16 ^ c' % 16) = true
        rw [e2]; exact zt_oc_key k1 c'
  | succ d ih =>
    intro H
    have H' : ∀ k', (mp k').isSome = true → k' / 16 ^ (c + d) = k / 16 ^ (c + d) → k' / 16 ^ c = k / 16 ^ c := by
      intro k' h1 h2
      refine H k' h1 ?_
      rw [show c + (d + 1) = c + d + 1 by omega, zb_dv, zb_dv, h2]
    obtain ⟨i1, i2⟩ := ih H'
    refine ⟨?_, i2⟩
    have e1 := zb_dm k (c + d)
    have hkc : zt_kc mp (c + d) (k / 16 ^ (c + d + 1)) = 1 := by
      refine zb_cnt_1' (i := k / 16 ^ (c + d) % 16) (by omega) ?_ ?_
      · show zt_oc mp (c + d) (16 * (k / 16 ^ (c + d + 1)) + k / 16 ^ (c + d) % 16) = true
        rw [e1]; exact zt_oc_key hk _
      · intro j hj hp
        obtain ⟨k', k1, k2⟩ := (zt_oc_iff mp (c + d) _).mp (show zt_oc mp (c + d) (16 * (k / 16 ^ (c + d + 1)) + j) = true from hp)
        have k3 : k' / 16 ^ (c + d + 1) = k / 16 ^ (c + d + 1) := by rw [zb_dv k', k2]; omega
        have k4 := H k' k1 k3
        have k5 : k' / 16 ^ (c + d) = k / 16 ^ (c + d) := by rw [← zb_dva, ← zb_dva, k4]
        omega
    have hfk : k / 16 ^ (c + d) = zt_fk mp (c + d) (k / 16 ^ (c + d + 1)) := zt_fk_1 hkc (zt_oc_key hk _) (zb_dv k (c + d)).symm
    rw [show c + (d + 1) = c + d + 1 by omega, zt_nw, if_pos hkc, ← hfk]
    exact i1
theorem zy_T_set2 {t : Nat → Int32} {a b m m' : Int32} {l : List Int32} (h : zy_T t (a :: b :: m :: l)) : zy_T (upd t 2 m') (a :: b :: m' :: l) := by
  intro i y hy
  rcases i with _ | _ | _ | i
  · rw [pk_un (by omega)]; exact h 0 y hy
  · rw [pk_un (by omega)]; exact h 1 y hy
  · cases hy; exact pk_us
  · rw [pk_un (by omega)]; exact h (i + 3) y hy
theorem zy_m1 {e : Nat} (h : e < 4) : nI (4 - e) + (-1) = nI (4 - (e + 1)) := by
  rw [sb_m1 (by omega)]; exact congrArg nI (by omega)
theorem zy_s1 {e : Nat} (h : e < 4) : nI (4 - e) - 1 = nI (4 - (e + 1)) := by
  rw [show (1 : Int32) = nI 1 from rfl, pk_sub (by omega)]; exact congrArg nI (by omega)
theorem zb_P_eq {a b h : Nat} (ha : a < 65536) (hb : b < 65536) (hh : h ≤ 4) : zb_P (nI a) (nI (4 - h)) = zb_P (nI b) (nI (4 - h)) ↔ a / 16 ^ h = b / 16 ^ h := by
  rw [zb_P_nI ha hh, zb_P_nI hb hh, zb_mul_inj (zt_kl ha) (zt_kl hb)]
theorem zb_mono {a b e f : Nat} (h : a / 16 ^ e = b / 16 ^ e) (hf : e ≤ f) : a / 16 ^ f = b / 16 ^ f := by
  rw [show f = e + (f - e) by omega, ← zb_dva, ← zb_dva, h]
section
variable {f_capacity f_seed f_bits f_count f_tn f_proofLen f_proofNodes f_claim f_ck f_wn f_nodes f_claimed : Int32} {a_keys a_vals a_dig a_t a_proof a_proofStart a_w a_start : Nat → Int32}
theorem zy_build17 {post : SY → Prop} {J : Int32 → Int32 → Prop} {h i j c0 : Nat} {kk : Nat → Nat} (hh : h ≤ 4) (hi : i < 16) (hj : j < 16) (ki : kk i < 65536) (kj : kk j < 65536) (ei : a_keys i = nI (kk i)) (ej : a_keys j = nI (kk j))
    (H : ∀ c', c0 ≤ c' → c' ≤ h → (kk j / 16 ^ h = kk i / 16 ^ h → kk j / 16 ^ c' = kk i / 16 ^ c') → (c' ≠ c0 → 1 ≤ c' ∧ kk j / 16 ^ h = kk i / 16 ^ h ∧ ¬ kk j / 16 ^ (c' - 1) = kk i / 16 ^ (c' - 1)) → J (nI (4 - c')) (nI (j + 1))) :
    ∀ d e c, e + d = h → c0 ≤ c → c ≤ h → (kk j / 16 ^ h = kk i / 16 ^ h → c < e → kk j / 16 ^ c = kk i / 16 ^ c) → (c ≠ c0 → 1 ≤ c ∧ kk j / 16 ^ h = kk i / 16 ^ h ∧ ¬ kk j / 16 ^ (c - 1) = kk i / 16 ^ (c - 1)) →
      wY_build_17 post J (nI (4 - h)) (nI i) (nI j) f_capacity f_seed f_bits f_count f_tn f_proofLen f_proofNodes f_claim f_ck f_wn f_nodes f_claimed a_keys a_vals a_dig a_t a_proof a_proofStart a_w a_start (d + 1) (nI (4 - c)) (nI (4 - e)) := by
  intro d
  induction d with
  | zero =>
    intro e c he h0 hc h1 h2
    have : e = h := by omega
    subst this
    refine br_t (nI_le (Nat.le_refl _) (by omega)) (nm_r (nI_1 j) (H c h0 hc ?_ h2))
    intro hs
    by_cases hce : c < e
    · exact h1 hs hce
    · have : c = e := by omega
      subst this
      exact hs
  | succ d ih =>
    intro e c he h0 hc h1 h2
    have m1 := zy_m1 (show e < 4 by omega)
    refine br_f (nI_ge (by omega) (by omega)) ?_
    by_cases hce : e < c
    · exact br_t (nI_lt (by omega) (by omega)) (nm_r m1 (ih (e + 1) c (by omega) h0 hc (fun hs h3 => by omega) h2))
    · refine br_f (nI_nlt (by omega) (by omega)) ⟨vp_in_nI hj (by omega), ?_⟩
      rw [nI_clamp (show i < 2 ^ 31 by omega), nI_clamp (show j < 2 ^ 31 by omega), ei, ej]
      refine zy_prefix ⟨vp_in_nI hi (by omega), zy_prefix (br_c (fun hs => ⟨vp_in_nI hj (by omega), zy_prefix ⟨vp_in_nI hi (by omega), zy_prefix (br_c (fun hq => nm_r m1 ?_) (fun hq => nm_r (zy_s1 (by omega)) (nm_r m1 ?_)))⟩⟩) (fun hs => nm_r m1 ?_))⟩
      · rw [zb_P_eq kj ki hh] at hs
        rw [zb_P_eq kj ki (by omega)] at hq
        refine ih (e + 1) c (by omega) h0 hc (fun _ h3 => ?_) h2
        by_cases h4 : c < e
        · exact h1 hs h4
        · have : c = e := by omega
          subst this
          exact hq
      · rw [zb_P_eq kj ki hh] at hs
        rw [zb_P_eq kj ki (by omega)] at hq
        have : c = e := by
          apply Classical.byContradiction
          intro h4
          exact hq (zb_mono (h1 hs (by omega)) (by omega))
        subst this
        refine ih (c + 1) (c + 1) (by omega) (by omega) (by omega) (fun _ h3 => by omega) (fun _ => ⟨by omega, hs, ?_⟩)
        rw [Nat.add_sub_cancel]
        exact hq
      · rw [zb_P_eq kj ki hh] at hs
        exact ih (e + 1) c (by omega) h0 hc (fun h3 _ => absurd h3 hs) h2
theorem zy_build168 {post : SY → Prop} {mp : Nat → Option Int32} {n c k : Nat} {kk : Nat → Nat} (M : zy_M mp a_keys a_vals n kk) (hc : c < 4) (hk : k < 65536) (D : zy_D f_seed f_bits mp kk n a_dig (c + 1)) (hn : f_count = nI n)
    (H : ∀ t, zy_T t (nI (5 - c) :: nI (k / 16 ^ (c + 1) * 16 ^ (c + 1)) :: zb_mk (zt_p mp c (k / 16 ^ (c + 1))) 16 :: zh_kl (zt_p mp c (k / 16 ^ (c + 1))) (fun v => zh_H f_seed f_bits (zt_nw f_seed f_bits mp c (16 * (k / 16 ^ (c + 1)) + v))) 16) →
      post (f_capacity, f_seed, f_bits, f_count, nI (3 + zb_cnt (zt_p mp c (k / 16 ^ (c + 1))) 16), f_proofLen, f_proofNodes, f_claim, f_ck, f_wn, f_nodes, f_claimed, a_keys, a_vals, a_dig, t, a_proof, a_proofStart, a_w, a_start)) :
    ∀ d v t, v + d = 16 → zy_T t (nI (5 - c) :: nI (k / 16 ^ (c + 1) * 16 ^ (c + 1)) :: zb_mk (zt_p mp c (k / 16 ^ (c + 1))) v :: zh_kl (zt_p mp c (k / 16 ^ (c + 1))) (fun v => zh_H f_seed f_bits (zt_nw f_seed f_bits mp c (16 * (k / 16 ^ (c + 1)) + v))) v) →
      wY_build_168 post (nI (3 - c)) (nI (k / 16 ^ (c + 1) * 16 ^ (c + 1))) (d + 1) (nI v) f_capacity f_seed f_bits f_count (nI (3 + zb_cnt (zt_p mp c (k / 16 ^ (c + 1))) v)) f_proofLen f_proofNodes f_claim f_ck f_wn f_nodes f_claimed a_keys a_vals a_dig t a_proof a_proofStart a_w a_start := by
  intro d
  induction d with
  | zero =>
    intro v t hv ht
    have : v = 16 := by omega
    subst this
    exact br_t (nI_le (a := 16) (b := 16) (by omega) (by omega)) (H t ht)
  | succ d ih =>
    intro v t hv ht
    obtain ⟨M1, M2, M3, M4⟩ := M
    have hg : (16 * (k / 16 ^ (c + 1)) + v) * 16 ^ c < 65536 := by
      have e1 : (k / 16 ^ (c + 1)) * 16 ^ (c + 1) ≤ k := Nat.div_mul_le_self k _
      rcases (by omega : c = 0 ∨ c = 1 ∨ c = 2 ∨ c = 3) with rfl | rfl | rfl | rfl
      · rw [show 16 ^ (0 + 1) = 16 from rfl] at e1 ⊢; rw [show 16 ^ 0 = 1 from rfl]; omega
      · rw [show 16 ^ (1 + 1) = 256 from rfl] at e1 ⊢; rw [show 16 ^ 1 = 16 from rfl]; omega
      · rw [show 16 ^ (2 + 1) = 4096 from rfl] at e1 ⊢; rw [show 16 ^ 2 = 256 from rfl]; omega
      · rw [show 16 ^ (3 + 1) = 65536 from rfl] at e1 ⊢; rw [show 16 ^ 3 = 4096 from rfl]; omega
    have e1 : nI (3 - c) + 1 = nI (4 - c) := by rw [nI_1]; exact congrArg nI (by omega)
    have hcnt := zb_cnt_le (zt_p mp c (k / 16 ^ (c + 1))) v
    refine br_f (nI_ge (a := v) (b := 16) (by omega) (by omega)) ?_
    rw [e1, zb_or hc (by omega)]
    refine zy_find (n := n) M1 hn (fun j hj hf => br_f (nI_pos (by omega)) ?_) (fun hf => br_t (by decide) (nm_r (nI_1 v) ?_))
    · obtain ⟨j1, j2, j3⟩ := M2 j hj
      rw [j2, zb_P_eq j1 hg (by omega), Nat.mul_div_cancel _ (zb_p16 c)] at hf
      have ho : zt_p mp c (k / 16 ^ (c + 1)) v = true := (zt_oc_iff mp c _).mpr ⟨kk j, by rw [j3]; rfl, hf⟩
      have ihj := ih (v + 1)
      rw [zb_mk, if_pos ho, zh_kl, if_pos ho, zb_cnt, if_pos ho] at ihj
      have ix : 16 * nI (4 - c) + nI j = nI (16 * (4 - c) + j) := by rw [show (16 : Int32) = nI 16 from rfl, pk_mul, nI_add]
      refine nm_e ?_
      have t2 : t 2 = zb_mk (zt_p mp c (k / 16 ^ (c + 1))) v := ht 2 _ rfl
      rw [ix, nI_clamp (by omega), D c j (by omega) hj, hf, t2]
      refine ⟨vp_in_nI (by omega) (by omega), ?_⟩
      have ht' := zy_T_set2 (m' := zb_mk (zt_p mp c (k / 16 ^ (c + 1))) v ||| ((1 : Int32) <<< (nI v &&& 31))) ht
      have hlen : (nI (5 - c) :: nI (k / 16 ^ (c + 1) * 16 ^ (c + 1)) :: (zb_mk (zt_p mp c (k / 16 ^ (c + 1))) v ||| ((1 : Int32) <<< (nI v &&& 31))) :: zh_kl (zt_p mp c (k / 16 ^ (c + 1))) (fun v => zh_H f_seed f_bits (zt_nw f_seed f_bits mp c (16 * (k / 16 ^ (c + 1)) + v))) v).length = 3 + zb_cnt (zt_p mp c (k / 16 ^ (c + 1))) v := by
        rw [List.length_cons, List.length_cons, List.length_cons, zh_kl_len]; omega
      rw [← hlen]
      refine zy_add (by rw [hlen]; omega) ht' ?_
      intro t' ht2
      refine nm_r (nI_1 v) ?_
      rw [hlen]
      exact ihj t' (by omega) ht2
    · have ho : ¬ zt_p mp c (k / 16 ^ (c + 1)) v = true := by
        intro ho
        obtain ⟨k', k1, k2⟩ := (zt_oc_iff mp c _).mp (show zt_oc mp c (16 * (k / 16 ^ (c + 1)) + v) = true from ho)
        obtain ⟨j, hj, rfl⟩ := M3 k' k1
        obtain ⟨j1, j2, _⟩ := M2 j hj
        refine hf j hj ?_
        rw [j2, zb_P_eq j1 hg (by omega), Nat.mul_div_cancel _ (zb_p16 c)]
        exact k2
      have ihj := ih (v + 1) t (by omega)
      rw [zb_mk, if_neg ho, zh_kl, if_neg ho, zb_cnt, if_neg ho, List.append_nil] at ihj
      exact ihj ht
end
end
section
section
variable {f_capacity f_seed f_bits f_count f_tn f_proofLen f_proofNodes f_claim f_ck f_wn f_nodes f_claimed : Int32} {a_keys a_vals a_dig a_t a_proof a_proofStart a_w a_start : Nat → Int32}
/-- what build leaves: the words of a node in t -/
theorem zy_build5 {post : SY → Prop} {mp : Nat → Option Int32} {n h i : Nat} {kk : Nat → Nat} (M : zy_M mp a_keys a_vals n kk) (hh : h ≤ 4) (hi : i < n) (D : zy_D f_seed f_bits mp kk n a_dig h) (hn : f_count = nI n)
    (H : ∀ t, zy_T t (zt_nw f_seed f_bits mp h (kk i / 16 ^ h)) → post (f_capacity, f_seed, f_bits, f_count, nI (zt_nw f_seed f_bits mp h (kk i / 16 ^ h)).length, f_proofLen, f_proofNodes, f_claim, f_ck, f_wn, f_nodes, f_claimed, a_keys, a_vals, a_dig, t, a_proof, a_proofStart, a_w, a_start)) :
    ∀ d j c, j + d = n → c ≤ h → (∀ j', j' < j → kk j' / 16 ^ h = kk i / 16 ^ h → kk j' / 16 ^ c = kk i / 16 ^ c) → (c = 0 ∨ ∃ j', j' < n ∧ kk j' / 16 ^ h = kk i / 16 ^ h ∧ ¬ kk j' / 16 ^ (c - 1) = kk i / 16 ^ (c - 1)) →
      wY_build_5 post (nI (4 - h)) (nI i) f_capacity f_seed f_bits f_count f_tn f_proofLen f_proofNodes f_claim f_ck f_wn f_nodes f_claimed a_keys a_vals a_dig a_t a_proof a_proofStart a_w a_start (d + 1) (nI (4 - c)) (nI j) := by
  have M' := M
  obtain ⟨M1, M2, M3, M4⟩ := M
  obtain ⟨ki, ei, vi⟩ := M2 i hi
  subst hn
  intro d
  induction d with
  | zero =>
    intro j c hj hc h1 h2
    have : j = n := by omega
    subst this
    have hk : (mp (kk i)).isSome = true := by rw [vi]; rfl
    have hall : ∀ k', (mp k').isSome = true → k' / 16 ^ (c + (h - c)) = kk i / 16 ^ (c + (h - c)) → k' / 16 ^ c = kk i / 16 ^ c := by
      intro k' a b
      obtain ⟨j', hj', rfl⟩ := M3 k' a
      rw [show c + (h - c) = h by omega] at b
      exact h1 j' hj' b
    have hcc : c = 0 ∨ ∃ k', (mp k').isSome = true ∧ k' / 16 ^ c = kk i / 16 ^ c ∧ ¬ k' / 16 ^ (c - 1) = kk i / 16 ^ (c - 1) := by
      rcases h2 with h2 | ⟨j', a, b, e⟩
      · exact Or.inl h2
      · exact Or.inr ⟨kk j', by rw [(M2 j' a).2.2]; rfl, h1 j' a b, e⟩
    obtain ⟨w1, w2⟩ := zt_nw_at (s := f_seed) (b := f_bits) hk hcc (h - c) hall
    rw [show c + (h - c) = h by omega] at w1
    rw [w1] at H
    refine br_t (nI_le (Nat.le_refl _) (by omega)) ?_
    have v : vp_in (nI i) 16 := vp_in_nI (by omega) (by omega)
    refine ⟨v, v, ?_⟩
    rw [nI_clamp (by omega), ei]
    refine zy_three (fun t ht => br_f (nI_ne0 (by omega) (by omega)) ?_)
    rcases c with _ | c
    · refine br_t rfl ?_
      rw [zt_nw, Nat.pow_zero, Nat.div_one, vi] at H
      exact H t ht
    · have w2 := w2 c rfl
      refine br_f (by show ¬ nI (4 - (c + 1)) = nI 4; rw [nI_eq (by omega) (by omega)]; omega) ⟨v, ?_⟩
      rw [nI_clamp (by omega), ei]
      refine zy_prefix ?_
      rw [zb_P_nI ki (by omega)]
      rw [show 4 - (c + 1) = 3 - c by omega, (zb_tag c (by omega)).2.2.2.2]
      refine zy_three (fun t ht => ⟨17, ?_⟩)
      refine zy_build168 (n := j) (kk := kk) M' (by omega) ki (fun a j ha hj => D a j (by omega) hj) rfl ?_ 16 0 t rfl ht
      intro t ht
      rw [zt_nw, if_neg (by omega)] at H
      have := H t ht
      rw [List.length_cons, List.length_cons, List.length_cons, zh_kl_len, show zb_cnt (zt_p mp c (kk i / 16 ^ (c + 1))) 16 + 1 + 1 + 1 = 3 + zb_cnt (zt_p mp c (kk i / 16 ^ (c + 1))) 16 by omega] at this
      exact this
  | succ d ih =>
    intro j c hj hc h1 h2
    obtain ⟨kj, ej, vj⟩ := M2 j (by omega)
    refine br_f (nI_ge (by omega) (by omega)) ⟨h + 1, ?_⟩
    refine zy_build17 (c0 := c) (kk := kk) hh (by omega) (by omega) ki kj ei ej ?_ h 0 c (by omega) (Nat.le_refl _) hc (fun _ h3 => by omega) (fun h3 => absurd rfl h3)
    intro c' a1 a2 a3 a4
    refine ih (j + 1) c' (by omega) a2 ?_ ?_
    · intro j' hj' hs
      by_cases e : j' = j
      · subst e; exact a3 hs
      · exact zb_mono (h1 j' (by omega) hs) a1
    · by_cases e : c' = c
      · subst e; exact h2
      · have := a4 e
        exact Or.inr ⟨j, by omega, this.2.1, this.2.2⟩
theorem zy_build {post : SY → Prop} {mp : Nat → Option Int32} {n h i : Nat} {kk : Nat → Nat} (M : zy_M mp a_keys a_vals n kk) (hh : h ≤ 4) (hi : i < n) (D : zy_D f_seed f_bits mp kk n a_dig h) (hn : f_count = nI n)
    (H : ∀ t, zy_T t (zt_nw f_seed f_bits mp h (kk i / 16 ^ h)) → post (f_capacity, f_seed, f_bits, f_count, nI (zt_nw f_seed f_bits mp h (kk i / 16 ^ h)).length, f_proofLen, f_proofNodes, f_claim, f_ck, f_wn, f_nodes, f_claimed, a_keys, a_vals, a_dig, t, a_proof, a_proofStart, a_w, a_start)) : wpY_build post (f_capacity, f_seed, f_bits, f_count, f_tn, f_proofLen, f_proofNodes, f_claim, f_ck, f_wn, f_nodes, f_claimed, a_keys, a_vals, a_dig, a_t, a_proof, a_proofStart, a_w, a_start) (nI (4 - h)) (nI i) :=
  ⟨n + 1, zy_build5 M hh hi D hn H n 0 0 (by omega) (by omega) (fun _ h => by omega) (Or.inl rfl)⟩
/-- the empty map -/
theorem zy_build0 {post : SY → Prop} (hn : f_count = 0) (H : ∀ t, zy_T t [0] → post (f_capacity, f_seed, f_bits, f_count, 1, f_proofLen, f_proofNodes, f_claim, f_ck, f_wn, f_nodes, f_claimed, a_keys, a_vals, a_dig, t, a_proof, a_proofStart, a_w, a_start)) : wpY_build post (f_capacity, f_seed, f_bits, f_count, f_tn, f_proofLen, f_proofNodes, f_claim, f_ck, f_wn, f_nodes, f_claimed, a_keys, a_vals, a_dig, a_t, a_proof, a_proofStart, a_w, a_start) 0 0 := by
  subst hn
  have v : vp_in 0 16 := vp_in_nI (n := 0) (by omega) (by omega)
  refine ⟨1, br_t (by decide) ⟨v, v, zy_three (fun t ht => br_t rfl (nm_e (br_t rfl (H _ ?_))))⟩⟩
  intro i y hy
  have := zy_T_lt hy
  have : i = 0 := by rw [List.length_singleton] at this; omega
  subst this
  cases hy
  exact pk_us
theorem zt_nw_len (s b : Int32) (mp : Nat → Option Int32) : ∀ h g, 3 ≤ (zt_nw s b mp h g).length ∧ (zt_nw s b mp h g).length ≤ 19 := by
  intro h
  induction h with
  | zero => intro g; exact ⟨Nat.le_refl 3, by show 3 ≤ 19; omega⟩
  | succ h ih =>
    intro g
    rw [zt_nw]
    split
    · exact ih _
    · rw [List.length_cons, List.length_cons, List.length_cons, zh_kl_len]
      have := zb_cnt_le (zt_p mp h g) 16
      omega
def zt_rw (s b : Int32) (mp : Nat → Option Int32) : List Int32 := if zt_oc mp 4 0 = true then zt_nw s b mp 4 0 else [0]
theorem zy_n0 {mp : Nat → Option Int32} {keys vals : Nat → Int32} {n : Nat} {kk : Nat → Nat} (M : zy_M mp keys vals n kk) : zt_oc mp 4 0 = true ↔ 0 < n := by
  obtain ⟨M1, M2, M3, M4⟩ := M
  constructor
  · intro h
    obtain ⟨k, k1, _⟩ := (zt_oc_iff mp 4 0).mp h
    obtain ⟨j, hj, _⟩ := M3 k k1
    omega
  · intro h
    obtain ⟨a, _, c⟩ := M2 0 h
    have := zt_oc_key (mp := mp) (k := kk 0) (by rw [c]; rfl) 4
    rw [zt_k4 a] at this
    exact this
theorem zy_root8 {post : Int32 → SY → Prop} {J : Int32 → Int32 → Int32 → Int32 → Int32 → Int32 → Int32 → Int32 → Int32 → Int32 → Int32 → Int32 → Int32 → (Nat → Int32) → (Nat → Int32) → (Nat → Int32) → (Nat → Int32) → (Nat → Int32) → (Nat → Int32) → (Nat → Int32) → (Nat → Int32) → Prop}
    {mp : Nat → Option Int32} {n a : Nat} {kk : Nat → Nat} (M : zy_M mp a_keys a_vals n kk) (ha : a < 4) (hn : f_count = nI n)
    (H : ∀ tn t dig, zy_D f_seed f_bits mp kk n dig (a + 1) → J (nI (4 - (a + 1))) f_capacity f_seed f_bits f_count tn f_proofLen f_proofNodes f_claim f_ck f_wn f_nodes f_claimed a_keys a_vals dig t a_proof a_proofStart a_w a_start) :
    ∀ d i tn t dig, i + d = n → zy_D f_seed f_bits mp kk n dig a → (∀ j, j < i → dig (16 * (4 - a) + j) = zh_H f_seed f_bits (zt_nw f_seed f_bits mp a (kk j / 16 ^ a))) →
      wY_root_8 post J (nI (4 - a)) (d + 1) (nI i) f_capacity f_seed f_bits f_count tn f_proofLen f_proofNodes f_claim f_ck f_wn f_nodes f_claimed a_keys a_vals dig t a_proof a_proofStart a_w a_start := by
  subst hn
  intro d
  induction d with
  | zero =>
    intro i tn t dig hi D hd
    have : i = n := by omega
    subst this
    have := M.1
    refine br_t (nI_le (Nat.le_refl _) (by omega)) (nm_r (zy_m1 ha) (H tn t dig ?_))
    intro a' j h1 h2
    by_cases e : a' = a
    · subst e; exact hd j h2
    · exact D a' j (by omega) h2
  | succ d ih =>
    intro i tn t dig hi D hd
    have := M.1
    refine br_f (nI_ge (by omega) (by omega)) ?_
    refine zy_build M (by omega) (by omega) D rfl ?_
    intro t' ht
    have hl := zt_nw_len f_seed f_bits mp a (kk i / 16 ^ a)
    refine zy_hash (by omega) ht ?_
    have ix : 16 * nI (4 - a) + nI i = nI (16 * (4 - a) + i) := by rw [show (16 : Int32) = nI 16 from rfl, pk_mul, nI_add]
    rw [ix, nI_clamp (by omega)]
    refine ⟨vp_in_nI (by omega) (by omega), nm_e (nm_r (nI_1 i) (ih (i + 1) _ _ _ (by omega) ?_ ?_))⟩
    · intro a' j h1 h2
      rw [pk_un (by omega)]
      exact D a' j h1 h2
    · intro j hj
      by_cases e : j = i
      · subst e; exact pk_us
      · rw [pk_un (by omega)]
        exact hd j (by omega)
theorem zy_root2 {post : Int32 → SY → Prop} {mp : Nat → Option Int32} {n : Nat} {kk : Nat → Nat} (M : zy_M mp a_keys a_vals n kk) (hn : f_count = nI n)
    (H : ∀ tn t dig, zy_D f_seed f_bits mp kk n dig 4 → post (zh_H f_seed f_bits (zt_rw f_seed f_bits mp)) (f_capacity, f_seed, f_bits, f_count, tn, f_proofLen, f_proofNodes, f_claim, f_ck, f_wn, f_nodes, f_claimed, a_keys, a_vals, dig, t, a_proof, a_proofStart, a_w, a_start)) :
    ∀ d a tn t dig, a + d = 4 → zy_D f_seed f_bits mp kk n dig a → wY_root_2 post (d + 1) (nI (4 - a)) f_capacity f_seed f_bits f_count tn f_proofLen f_proofNodes f_claim f_ck f_wn f_nodes f_claimed a_keys a_vals dig t a_proof a_proofStart a_w a_start := by
  intro d
  induction d with
  | zero =>
    intro a tn t dig ha D
    have : a = 4 := by omega
    subst this
    refine br_t (by decide) ?_
    by_cases h0 : 0 < n
    · have o := (zy_n0 M).mpr h0
      rw [zt_rw, if_pos o] at H
      have kz := (M.2.1 0 h0).1
      refine zy_build (h := 4) (i := 0) M (by omega) h0 D hn ?_
      intro t' ht
      have hl := zt_nw_len f_seed f_bits mp 4 (kk 0 / 16 ^ 4)
      refine zy_hash (by omega) ht ?_
      rw [zt_k4 kz]
      exact H _ _ _ D
    · have o : ¬ zt_oc mp 4 0 = true := fun o => h0 ((zy_n0 M).mp o)
      rw [zt_rw, if_neg o] at H
      have : n = 0 := by omega
      subst this
      refine zy_build0 hn ?_
      intro t' ht
      exact zy_hash (ws := [0]) (by show 1 ≤ 20; omega) ht (H _ _ _ D)
  | succ d ih =>
    intro a tn t dig ha D
    refine br_f (nI_nle (by omega) (by omega)) ⟨n + 1, ?_⟩
    refine zy_root8 M (by omega) hn ?_ n 0 tn t dig (by omega) D (fun j hj => by omega)
    intro tn' t' dig' D'
    exact ih (a + 1) tn' t' dig' (by omega) D'
theorem zy_root {post : Int32 → SY → Prop} {mp : Nat → Option Int32} {n : Nat} {kk : Nat → Nat} (M : zy_M mp a_keys a_vals n kk) (hn : f_count = nI n)
    (H : ∀ tn t dig, zy_D f_seed f_bits mp kk n dig 4 → post (zh_H f_seed f_bits (zt_rw f_seed f_bits mp)) (f_capacity, f_seed, f_bits, f_count, tn, f_proofLen, f_proofNodes, f_claim, f_ck, f_wn, f_nodes, f_claimed, a_keys, a_vals, dig, t, a_proof, a_proofStart, a_w, a_start)) : wpY_root post (f_capacity, f_seed, f_bits, f_count, f_tn, f_proofLen, f_proofNodes, f_claim, f_ck, f_wn, f_nodes, f_claimed, a_keys, a_vals, a_dig, a_t, a_proof, a_proofStart, a_w, a_start) :=
  ⟨5, zy_root2 M hn H 4 0 f_tn a_t a_dig rfl (fun _ _ h => by omega)⟩
end
end
section
/-! Y's prove -/
theorem zt_nw_2 {s b : Int32} {mp : Nat → Option Int32} {h g : Nat} (e : ¬ zt_kc mp h g = 1) : zt_nw s b mp (h + 1) g =
    nI (5 - h) :: nI (g * 16 ^ (h + 1)) :: zb_mk (zt_p mp h g) 16 :: zh_kl (zt_p mp h g) (fun v => zh_H s b (zt_nw s b mp h (16 * g + v))) 16 := by rw [zt_nw, if_neg e]
def zy_PS (proof ps : Nat → Int32) (wss : List (List Int32)) : Prop := zy_T proof wss.flatten ∧ ∀ j, j ≤ wss.length → ps j = nI ((wss.take j).flatten.length)
theorem zy_PS_snoc {proof proof' ps : Nat → Int32} {wss : List (List Int32)} {ws : List Int32} (h : zy_PS proof ps wss) (hp : zy_T proof' (wss.flatten ++ ws)) :
    zy_PS proof' (upd ps (wss.length + 1) (nI (wss.flatten.length + ws.length))) (wss ++ [ws]) := by
  have ef : (wss ++ [ws]).flatten = wss.flatten ++ ws := by rw [List.flatten_append, List.flatten_singleton]
  refine ⟨by rw [ef]; exact hp, ?_⟩
  intro j hj
  rw [List.length_append, List.length_singleton] at hj
  by_cases e : j = wss.length + 1
  · subst e
    rw [pk_us, List.take_of_length_le (by rw [List.length_append, List.length_singleton]; exact Nat.le_refl _), ef, List.length_append]
  · rw [pk_un e, h.2 j (by omega), List.take_append_of_le_length (by omega)]
section
variable {f_capacity f_seed f_bits f_count f_tn f_proofLen f_proofNodes f_claim f_ck f_wn f_nodes f_claimed : Int32} {a_keys a_vals a_dig a_t a_proof a_proofStart a_w a_start : Nat → Int32}
theorem zy_prove40 {post : SY → Prop} {J : Int32 → Int32 → Int32 → Int32 → Int32 → Int32 → Int32 → Int32 → Int32 → Int32 → Int32 → Int32 → Int32 → Int32 → (Nat → Int32) → (Nat → Int32) → (Nat → Int32) → (Nat → Int32) → (Nat → Int32) → (Nat → Int32) → (Nat → Int32) → (Nat → Int32) → Prop}
    {k : Nat} {ws pre : List Int32} (ht : zy_T a_t ws) (hl : ws.length ≤ 20) (hb : pre.length + ws.length ≤ 80)
    (H : ∀ proof, zy_T proof (pre ++ ws) → wY_prove_90 post J (nI k) f_capacity f_seed f_bits f_count (nI ws.length) (nI (pre.length + ws.length)) f_proofNodes f_claim f_ck f_wn f_nodes f_claimed a_keys a_vals a_dig a_t proof a_proofStart a_w a_start) :
    ∀ d i proof, i + d = ws.length → zy_T proof (pre ++ ws.take i) → wY_prove_40 post J (nI k) f_capacity f_seed f_bits f_count (nI ws.length) f_proofNodes f_claim f_ck f_wn f_nodes f_claimed (d + 1) (nI i) (nI (pre.length + i)) a_keys a_vals a_dig a_t proof a_proofStart a_w a_start := by
  intro d
  induction d with
  | zero =>
    intro i proof hi hp
    have : i = ws.length := by omega
    subst this
    rw [List.take_length] at hp
    exact br_t (nI_le (Nat.le_refl _) (by omega)) (H proof hp)
  | succ d ih =>
    intro i proof hi hp
    refine br_f (nI_ge (by omega) (by omega)) (br_f (nI_ge (a := pre.length + i) (b := 80) (by omega) (by omega)) ⟨vp_in_nI (by omega) (by omega), vp_in_nI (by omega) (by omega), ?_⟩)
    rw [nI_clamp (show i < 2 ^ 31 by omega), nI_clamp (show pre.length + i < 2 ^ 31 by omega)]
    refine nm_e (nm_r (nI_1 i) (nm_r (nI_1 _) (ih (i + 1) _ (by omega) ?_)))
    have hg : ws[i]? = some (ws[i]'(by omega)) := List.getElem?_eq_getElem (by omega)
    have := zy_T_snoc (x := a_t i) hp
    rw [List.length_append, List.length_take, Nat.min_eq_left (by omega)] at this
    rw [List.take_succ, hg, ← ht i _ hg]
    rw [List.append_assoc] at this
    exact this
theorem zy_prove_c {post : SY → Prop} {J : Int32 → Int32 → Int32 → Int32 → Int32 → Int32 → Int32 → Int32 → Int32 → Int32 → Int32 → Int32 → Int32 → Int32 → (Nat → Int32) → (Nat → Int32) → (Nat → Int32) → (Nat → Int32) → (Nat → Int32) → (Nat → Int32) → (Nat → Int32) → (Nat → Int32) → Prop}
    {k n : Nat} {ws : List Int32} {pre : List (List Int32)} {proof ps : Nat → Int32} (hn16 : n ≤ 16) (hn : f_count = nI n) (ht : zy_T a_t ws) (hl : ws.length ≤ 20) (hb : pre.flatten.length + ws.length ≤ 80) (hs : pre.length < 5) (P : zy_PS proof ps pre)
    (he : (a_t 0 ≤ 1 ∨ (¬ a_t 0 ≤ 1 ∧ ¬ a_t 1 = zb_P (nI k) (a_t 0 - 1 - 1)) ∨ (¬ a_t 0 ≤ 1 ∧ a_t 1 = zb_P (nI k) (a_t 0 - 1 - 1) ∧ ∀ j, j < n → ¬ zb_P (a_keys j) (a_t 0 - 1) = zb_P (nI k) (a_t 0 - 1))) → ∀ proof ps, zy_PS proof ps (pre ++ [ws]) →
      J (a_t 0 - 1) (-1) f_capacity f_seed f_bits f_count (nI ws.length) (nI ((pre ++ [ws]).flatten.length)) (nI (pre ++ [ws]).length) f_claim f_ck f_wn f_nodes f_claimed a_keys a_vals a_dig a_t proof ps a_w a_start)
    (hg : ¬ a_t 0 ≤ 1 → a_t 1 = zb_P (nI k) (a_t 0 - 1 - 1) → ∀ j, j < n → zb_P (a_keys j) (a_t 0 - 1) = zb_P (nI k) (a_t 0 - 1) → ∀ proof ps, zy_PS proof ps (pre ++ [ws]) →
      J (a_t 0 - 1) (nI j) f_capacity f_seed f_bits f_count (nI ws.length) (nI ((pre ++ [ws]).flatten.length)) (nI (pre ++ [ws]).length) f_claim f_ck f_wn f_nodes f_claimed a_keys a_vals a_dig a_t proof ps a_w a_start) :
    ∃ n40, wY_prove_40 post J (nI k) f_capacity f_seed f_bits f_count (nI ws.length) (nI pre.length) f_claim f_ck f_wn f_nodes f_claimed n40 0 (nI pre.flatten.length) a_keys a_vals a_dig a_t proof ps a_w a_start := by
  refine ⟨ws.length + 1, ?_⟩
  have P0 := P.1
  have e1 : (pre ++ [ws]).flatten.length = pre.flatten.length + ws.length := by rw [List.flatten_append, List.flatten_singleton, List.length_append]
  have e2 : (pre ++ [ws]).length = pre.length + 1 := by rw [List.length_append, List.length_singleton]
  rw [e1, e2] at he hg
  refine zy_prove40 (pre := pre.flatten) ht hl hb ?_ ws.length 0 proof (by omega) (by rw [List.take_zero, List.append_nil]; exact P0)
  intro proof' hp
  have P' := zy_PS_snoc P hp
  have ec : (nI pre.length + 1).toNatClampNeg = pre.length + 1 := by rw [nI_1]; exact nI_clamp (by omega)
  have vv : vp_in (nI pre.length + 1) 6 := by rw [nI_1]; exact vp_in_nI (by omega) (by omega)
  unfold wY_prove_90
  rw [ec]
  refine ⟨vv, nm_e (nm_e (br_c (fun h1 => ?_) (fun h1 => zy_prefix (br_c (fun h2 => ?_) (fun h2 => ?_)))))⟩
  · exact nm_r (nI_1 _) (he (Or.inl h1) _ _ P')
  · refine zy_find (n := n) hn16 hn (fun j hj hf => nm_r (nI_1 _) (hg h1 h2 j hj hf _ _ P')) (fun hf => nm_r (nI_1 _) (he (Or.inr (Or.inr ⟨h1, h2, hf⟩)) _ _ P'))
  · exact nm_r (nI_1 _) (he (Or.inr (Or.inl ⟨h1, h2⟩)) _ _ P')
theorem zy_prove19_end {post : SY → Prop} {x1 x2 : Int32} {m : Nat} (H : post (f_capacity, f_seed, f_bits, f_count, f_tn, f_proofLen, f_proofNodes, f_claim, f_ck, f_wn, f_nodes, f_claimed, a_keys, a_vals, a_dig, a_t, a_proof, a_proofStart, a_w, a_start)) : wY_prove_19 post x1 (m + 1) x2 (-1) f_capacity f_seed f_bits f_count f_tn f_proofLen f_proofNodes f_claim f_ck f_wn f_nodes f_claimed a_keys a_vals a_dig a_t a_proof a_proofStart a_w a_start := br_c (fun _ => H) (fun _ => br_t (by decide) H)
end
/-- the words of a group beside k, or without the kid on the way, end the way -/
theorem zt_stop2 {s b : Int32} {mp : Nat → Option Int32} (K : zt_key mp) {k h : Nat} (hk : k < 65536) (hh : h + 1 ≤ 4) (e : zt_kc mp h (k / 16 ^ (h + 1)) = 1)
    (ho : zt_oc mp (h + 1) (k / 16 ^ (h + 1)) = true) (hn : ¬ zt_oc mp h (k / 16 ^ h) = true) {t : Nat → Int32} (ht : zy_T t (zt_nw s b mp (h + 1) (k / 16 ^ (h + 1)))) (h1 : ¬ t 0 ≤ 1) (h2 : t 1 = zb_P (nI k) (t 0 - 1 - 1)) : False := by
  obtain ⟨c, gc, c1, c2, c3, c4, c5, _⟩ := zt_can s b (h + 1) _ hh ho
  rw [c4] at ht
  rcases c5 with rfl | ⟨c', rfl, c5⟩
  · have : t 0 = 1 := ht 0 1 rfl
    rw [this] at h1
    exact h1 (by decide)
  · rw [zt_nw, if_neg (by omega)] at ht
    have t0 := ht 0 _ rfl
    have t1 := ht 1 _ rfl
    have e5 : nI (5 - c') - 1 - 1 = nI (4 - (c' + 1)) := by
      rw [show (1 : Int32) = nI 1 from rfl, pk_sub (by omega), pk_sub (by omega)]; exact congrArg nI (by omega)
    rw [t0, t1, e5, zb_P_nI hk (by omega), zb_mul_inj (zt_gl K c3) (zt_kl hk)] at h2
    by_cases ec : c' = h
    · subst ec
      rw [Nat.sub_self, Nat.pow_zero, Nat.div_one] at c2
      rw [c2] at c5
      omega
    · have := zt_oc_up c3 (h - (c' + 1))
      rw [h2, zb_dva, show c' + 1 + (h - (c' + 1)) = h by omega] at this
      exact hn this
section
variable {f_capacity f_seed f_bits f_count f_tn f_proofLen f_proofNodes f_claim f_ck f_wn f_nodes f_claimed : Int32} {a_keys a_vals a_dig a_t a_proof a_proofStart a_w a_start : Nat → Int32}
theorem zy_prove_h {post : SY → Prop} {mp : Nat → Option Int32} {n k : Nat} {kk : Nat → Nat} (M : zy_M mp a_keys a_vals n kk) (K : zt_key mp) (hk : k < 65536) (D : zy_D f_seed f_bits mp kk n a_dig 4) (hn : f_count = nI n) :
    ∀ h, h ≤ 4 → zt_oc mp h (k / 16 ^ h) = true → ∀ m (pre : List (List Int32)) (t proof ps : Nat → Int32), pre.length + h ≤ 4 → pre.flatten.length + 19 * h + 3 ≤ 79 → h < m → zy_PS proof ps pre → zy_T t (zt_nw f_seed f_bits mp h (k / 16 ^ h)) →
      (∀ tn t proof ps, zy_PS proof ps (pre ++ (zt_pl mp k h).map (fun a => zt_nw f_seed f_bits mp a (k / 16 ^ a))) →
        post (f_capacity, f_seed, f_bits, f_count, tn, nI ((pre ++ (zt_pl mp k h).map (fun a => zt_nw f_seed f_bits mp a (k / 16 ^ a))).flatten.length), nI (pre ++ (zt_pl mp k h).map (fun a => zt_nw f_seed f_bits mp a (k / 16 ^ a))).length, f_claim, f_ck, f_wn, f_nodes, f_claimed, a_keys, a_vals, a_dig, t, proof, ps, a_w, a_start)) →
      ∃ n40, wY_prove_40 post (wY_prove_19 post (nI k) m) (nI k) f_capacity f_seed f_bits f_count (nI (zt_nw f_seed f_bits mp h (k / 16 ^ h)).length) (nI pre.length) f_claim f_ck f_wn f_nodes f_claimed n40 0 (nI pre.flatten.length) a_keys a_vals a_dig t proof ps a_w a_start := by
  intro h
  induction h with
  | zero =>
    intro hh ho m pre t proof ps h1 h2 h3 P ht H
    obtain ⟨m, rfl⟩ : ∃ m', m = m' + 1 := ⟨m - 1, by omega⟩
    have hl := zt_nw_len f_seed f_bits mp 0 (k / 16 ^ 0)
    have t0 : t 0 = 1 := ht 0 1 rfl
    have hlt : (zt_nw f_seed f_bits mp 0 (k / 16 ^ 0)).length = 3 := rfl
    refine zy_prove_c (a_t := t) M.1 hn ht (by omega) (by omega) (by omega) P ?_ ?_
    · intro _ proof ps P'
      exact zy_prove19_end (H _ _ _ _ P')
    · intro hx
      rw [t0] at hx
      exact absurd (by decide) hx
  | succ h ih =>
    intro hh ho m pre t proof ps h1 h2 h3 P ht H
    have hpos := (zt_oc_S mp h _).mp ho
    have hl := zt_nw_len f_seed f_bits mp (h + 1) (k / 16 ^ (h + 1))
    by_cases e : zt_kc mp h (k / 16 ^ (h + 1)) = 1
    · by_cases o : zt_oc mp h (k / 16 ^ h) = true
      · rw [zt_pl, if_pos e, if_pos o] at H
        have en : zt_nw f_seed f_bits mp (h + 1) (k / 16 ^ (h + 1)) = zt_nw f_seed f_bits mp h (k / 16 ^ h) := by
          rw [zt_nw, if_pos e, ← zt_fk_1 e o (zb_dv k h).symm]
        rw [en] at ht ⊢
        exact ih (by omega) o m pre t proof ps (by omega) (by omega) (by omega) P ht H
      · obtain ⟨m, rfl⟩ : ∃ m', m = m' + 1 := ⟨m - 1, by omega⟩
        rw [zt_pl, if_pos e, if_neg o] at H
        refine zy_prove_c (a_t := t) M.1 hn ht (by omega) (by omega) (by omega) P ?_ ?_
        · intro _ proof ps P'
          exact zy_prove19_end (H _ _ _ _ P')
        · intro hx hy
          exact (zt_stop2 K hk hh e ho o ht hx hy).elim
    · obtain ⟨m, rfl⟩ : ∃ m', m = m' + 1 := ⟨m - 1, by omega⟩
      have en := zt_nw_2 (s := f_seed) (b := f_bits) e
      have ht2 := ht
      rw [en] at ht2
      have t0 := ht2 0 _ rfl
      have t1 := ht2 1 _ rfl
      have e4 : nI (5 - h) - 1 = nI (4 - h) := by
        rw [show (1 : Int32) = nI 1 from rfl, pk_sub (by omega)]; exact congrArg nI (by omega)
      have e3 : nI (4 - h) - 1 = nI (4 - (h + 1)) := zy_s1 (by omega)
      have c0 : ¬ t 0 ≤ 1 := by rw [t0]; exact nI_ge (a := 1) (by omega) (by omega)
      have c1 : t 1 = zb_P (nI k) (t 0 - 1 - 1) := by rw [t0, t1, e4, e3, zb_P_nI hk (by omega)]
      refine zy_prove_c (a_t := t) M.1 hn ht (by omega) (by omega) (by omega) P ?_ ?_
      · intro hx proof ps P'
        have o : ¬ zt_oc mp h (k / 16 ^ h) = true := by
          rcases hx with hx | hx | ⟨_, _, hx⟩
          · exact absurd hx c0
          · exact absurd c1 hx.2
          · intro o
            obtain ⟨k', k1, k2⟩ := (zt_oc_iff mp h _).mp o
            obtain ⟨j, hj, rfl⟩ := M.2.2.1 k' k1
            obtain ⟨j1, j2, _⟩ := M.2.1 j hj
            refine hx j hj ?_
            rw [t0, e4, j2, zb_P_eq j1 hk (by omega)]
            exact k2
        rw [zt_pl, if_neg e, if_neg o] at H
        exact zy_prove19_end (H _ _ _ _ P')
      · intro _ _ j hj hf proof ps P'
        obtain ⟨j1, j2, j3⟩ := M.2.1 j hj
        rw [t0, e4, j2, zb_P_eq j1 hk (by omega)] at hf
        have o : zt_oc mp h (k / 16 ^ h) = true := (zt_oc_iff mp h _).mpr ⟨kk j, by rw [j3]; rfl, hf⟩
        have h16 := M.1
        rw [zt_pl, if_neg e, if_pos o, List.map_cons] at H
        have el : (pre ++ [zt_nw f_seed f_bits mp (h + 1) (k / 16 ^ (h + 1))]).length = pre.length + 1 := by rw [List.length_append, List.length_singleton]
        have ef : (pre ++ [zt_nw f_seed f_bits mp (h + 1) (k / 16 ^ (h + 1))]).flatten.length = pre.flatten.length + (zt_nw f_seed f_bits mp (h + 1) (k / 16 ^ (h + 1))).length := by rw [List.flatten_append, List.flatten_singleton, List.length_append]
        rw [t0, e4]
        refine br_f (by rw [el]; exact nI_ge (b := 5) (by omega) (by omega)) (br_f (nI_pos (by omega)) ?_)
        refine zy_build (n := n) (h := h) (kk := kk) M (by omega) hj (fun a i ha hi => D a i (by omega) hi) hn ?_
        intro t' ht'
        rw [hf] at ht' ⊢
        refine ih (by omega) o m (pre ++ [zt_nw f_seed f_bits mp (h + 1) (k / 16 ^ (h + 1))]) t' proof ps (by omega) (by omega) (by omega) P' ht' ?_
        rw [List.append_assoc]
        exact H
theorem zy_prove {post : SY → Prop} {mp : Nat → Option Int32} {n k : Nat} {kk : Nat → Nat} (M : zy_M mp a_keys a_vals n kk) (K : zt_key mp) (hk : k < 65536) (hn : f_count = nI n) (hp0 : a_proofStart 0 = 0)
    (H : ∀ tn t dig proof ps, zy_PS proof ps (zt_ws f_seed f_bits mp k) → post (f_capacity, f_seed, f_bits, f_count, tn, nI (zt_ws f_seed f_bits mp k).flatten.length, nI (zt_ws f_seed f_bits mp k).length, f_claim, f_ck, f_wn, f_nodes, f_claimed, a_keys, a_vals, dig, t, proof, ps, a_w, a_start)) : wpY_prove post (f_capacity, f_seed, f_bits, f_count, f_tn, f_proofLen, f_proofNodes, f_claim, f_ck, f_wn, f_nodes, f_claimed, a_keys, a_vals, a_dig, a_t, a_proof, a_proofStart, a_w, a_start) (nI k) := by
  refine zy_root (post := fun r u => _) M hn ?_
  intro tn t dig D
  have P0 : zy_PS a_proof a_proofStart [] := ⟨zy_T_nil _, fun j hj => by have : j = 0 := by rw [List.length_nil] at hj; omega
                                                                         subst this; exact hp0⟩
  refine ⟨6, br_f (nI_ge (a := 0) (b := 5) (by omega) (by omega)) (br_f (by decide) ?_)⟩
  by_cases h0 : 0 < n
  · have o := (zy_n0 M).mpr h0
    have kz := (M.2.1 0 h0).1
    have o' : zt_oc mp 4 (k / 16 ^ 4) = true := by rw [zt_k4 hk]; exact o
    rw [zt_ws, if_pos o] at H
    refine zy_build (h := 4) (i := 0) (a_dig := dig) M (by omega) h0 D hn ?_
    intro t' ht'
    rw [show kk 0 / 16 ^ 4 = k / 16 ^ 4 by rw [zt_k4 kz, zt_k4 hk]] at ht' ⊢
    exact zy_prove_h (a_dig := dig) M K hk D hn 4 (by omega) o' 5 [] t' a_proof a_proofStart (by show 0 + 4 ≤ 4; omega) (by show 0 + 19 * 4 + 3 ≤ 79; omega) (by omega) P0 ht' (fun tn t proof ps P => H tn t dig proof ps P)
  · have o : ¬ zt_oc mp 4 0 = true := fun o => h0 ((zy_n0 M).mp o)
    rw [zt_ws, if_neg o] at H
    have : n = 0 := by omega
    subst this
    refine zy_build0 hn ?_
    intro t' ht'
    refine zy_prove_c (ws := [0]) (pre := []) (a_t := t') (n := 0) (by omega) hn ht' (by show 1 ≤ 20; omega) (by show 0 + 1 ≤ 80; omega) (by show 0 < 5; omega) P0 ?_ ?_
    · intro _ proof ps P'
      exact zy_prove19_end (H _ _ _ _ _ P')
    · intro _ _ j hj
      omega
end
end
section
/-! canonical nodes, the branching heights on the way, a map with and without k -/
def zt_cn (mp : Nat → Option Int32) (c gc : Nat) : Prop := zt_oc mp c gc = true ∧ c ≤ 4 ∧ (c = 0 ∨ ∃ c', c = c' + 1 ∧ 2 ≤ zt_kc mp c' gc)
theorem zt_cn_f {mp : Nat → Option Int32} {nd : Nat → Nat → Nat} {tag second third kids : Nat → Int32} (T : zt_T mp nd tag second third kids) {c gc : Nat} (h : zt_cn mp c gc) :
    tag (nd c gc) = nI (if c = 0 then 1 else 6 - c) ∧ second (nd c gc) = nI (gc * 16 ^ c) ∧ 1 ≤ nd c gc ∧ nd c gc < 32 := by
  obtain ⟨h1, h2, rfl | ⟨c', rfl, h3⟩⟩ := h
  · obtain ⟨a1, a2, a3, a4, a5⟩ := T.2.1 gc h1
    refine ⟨a3, ?_, a1, a2⟩
    rw [Nat.pow_zero, Nat.mul_one]
    exact a4
  · obtain ⟨a1, a2, a3, a4, a5⟩ := T.2.2.1 c' gc (by omega) h3
    refine ⟨?_, a4, a1, a2⟩
    rw [a3, if_neg (by omega)]
    exact congrArg nI (by omega)
theorem zt_uniq {mp : Nat → Option Int32} {nd : Nat → Nat → Nat} {tag second third kids : Nat → Int32} (T : zt_T mp nd tag second third kids) {c gc d gd : Nat} (h : zt_cn mp c gc) (h' : zt_cn mp d gd) (e : nd c gc = nd d gd) : c = d ∧ gc = gd := by
  obtain ⟨a1, a2, _⟩ := zt_cn_f T h
  obtain ⟨b1, b2, _⟩ := zt_cn_f T h'
  rw [e, b1] at a1
  rw [e, b2] at a2
  obtain ⟨h1, h2, _⟩ := h
  obtain ⟨h3, h4, _⟩ := h'
  have ec : c = d := by
    rw [nI_eq (by split <;> omega) (by split <;> omega)] at a1
    split at a1 <;> split at a1 <;> omega
  subst ec
  rw [zb_mul_inj (zt_gl T.1 h3) (zt_gl T.1 h1)] at a2
  exact ⟨rfl, a2.symm⟩
theorem zt_cn_of {mp : Nat → Option Int32} (s b : Int32) {h g : Nat} (hh : h ≤ 4) (ho : zt_oc mp h g = true) : ∃ c gc, c ≤ h ∧ gc / 16 ^ (h - c) = g ∧ zt_cn mp c gc ∧ zt_nw s b mp h g = zt_nw s b mp c gc ∧ ∀ nd, zt_TS mp nd → nd h g = nd c gc := by
  obtain ⟨c, gc, h1, h2, h3, h4, h5, h6⟩ := zt_can s b h g hh ho
  exact ⟨c, gc, h1, h2, ⟨h3, by omega, h5⟩, h4, h6⟩
theorem zt_nd_eq {s b : Int32} {mp : Nat → Option Int32} {nd : Nat → Nat → Nat} {tag second third kids : Nat → Int32} (T : zt_T mp nd tag second third kids) {h g c gc : Nat} (hh : h ≤ 4) (ho : zt_oc mp h g = true) (h' : zt_cn mp c gc) (e : nd h g = nd c gc) :
    c ≤ h ∧ gc / 16 ^ (h - c) = g ∧ zt_nw s b mp h g = zt_nw s b mp c gc := by
  obtain ⟨d, gd, h1, h2, h3, h4, h6⟩ := zt_cn_of s b hh ho
  rw [h6 nd T.2.2.2] at e
  obtain ⟨rfl, rfl⟩ := zt_uniq T h3 h' e
  exact ⟨h1, h2, h4⟩
def zt_one (mp : Nat → Option Int32) (k : Nat) : Nat → Bool
  | 0 => false
  | h + 1 => decide (zt_kc mp h (k / 16 ^ (h + 1)) = 1)
def zt_bu (mp : Nat → Option Int32) (k b : Nat) : Nat → List Nat
  | 0 => []
  | e + 1 => if zt_one mp k (b + e) = true then zt_bu mp k b e else (b + e) :: zt_bu mp k b e
theorem zt_one_S {mp : Nat → Option Int32} {k h : Nat} : zt_one mp k (h + 1) = true ↔ zt_kc mp h (k / 16 ^ (h + 1)) = 1 := by
  show decide _ = true ↔ _
  rw [decide_eq_true_iff]
theorem zt_cn_way {mp : Nat → Option Int32} {k h : Nat} (hh : h ≤ 4) (ho : zt_oc mp h (k / 16 ^ h) = true) (h1 : ¬ zt_one mp k h = true) : zt_cn mp h (k / 16 ^ h) := by
  refine ⟨ho, hh, ?_⟩
  rcases h with _ | h
  · exact Or.inl rfl
  · have := (zt_oc_S mp h _).mp ho
    rw [zt_one_S] at h1
    exact Or.inr ⟨h, rfl, by omega⟩
theorem zt_bu_split (mp : Nat → Option Int32) (k b : Nat) : ∀ e, zt_bu mp k b (e + 1) = zt_bu mp k (b + 1) e ++ (if zt_one mp k b = true then [] else [b]) := by
  intro e
  induction e with
  | zero => show (if zt_one mp k (b + 0) = true then [] else (b + 0) :: []) = [] ++ _; rw [List.nil_append, Nat.add_zero]
  | succ e ih =>
    rw [zt_bu, ih, zt_bu, show b + 1 + e = b + (e + 1) by omega]
    split <;> rfl
theorem zt_bu_ext {mp mq : Nat → Option Int32} {k b : Nat} : ∀ e, (∀ h, b ≤ h → h < b + e → zt_one mp k h = zt_one mq k h) → zt_bu mp k b e = zt_bu mq k b e := by
  intro e
  induction e with
  | zero => intro _; rfl
  | succ e ih => intro H; rw [zt_bu, zt_bu, ih (fun h a b => H h a (by omega)), H (b + e) (by omega) (by omega)]
theorem zt_bu_len (mp : Nat → Option Int32) (k b : Nat) : ∀ e, (zt_bu mp k b e).length ≤ e := by
  intro e
  induction e with
  | zero => exact Nat.le_refl 0
  | succ e ih => rw [zt_bu]; split
                 · omega
                 · rw [List.length_cons]; omega
/-- the least branching height from b on, or 5 -/
theorem zt_h2 (mp : Nat → Option Int32) (k : Nat) : ∀ e b, b + e = 5 → ∃ h2, b ≤ h2 ∧ h2 ≤ 5 ∧ (∀ h, b ≤ h → h < h2 → zt_one mp k h = true) ∧
    ((h2 = 5 ∧ zt_bu mp k b e = []) ∨ (h2 ≤ 4 ∧ zt_one mp k h2 = false ∧ zt_bu mp k b e = zt_bu mp k (h2 + 1) (4 - h2) ++ [h2])) := by
  intro e
  induction e with
  | zero => intro b hb; exact ⟨b, Nat.le_refl _, by omega, fun h h1 h2 => by omega, Or.inl ⟨by omega, rfl⟩⟩
  | succ e ih =>
    intro b hb
    rw [zt_bu_split]
    by_cases o : zt_one mp k b = true
    · obtain ⟨h2, a1, a2, a3, a4⟩ := ih (b + 1) (by omega)
      rw [if_pos o, List.append_nil]
      refine ⟨h2, by omega, a2, ?_, a4⟩
      intro h b1 b2
      by_cases eh : h = b
      · subst eh; exact o
      · exact a3 h (by omega) b2
    · rw [if_neg o]
      refine ⟨b, Nat.le_refl _, by omega, fun h h1 h2 => by omega, Or.inr ⟨by omega, by cases hq : zt_one mp k b <;> simp_all, ?_⟩⟩
      rw [show 4 - b = e by omega]
/-- where one kid is there on a stretch of the way and the lowest group is occupied, the ids are one -/
theorem zt_nd_one {mp : Nat → Option Int32} {nd : Nat → Nat → Nat} (TS : zt_TS mp nd) {k b : Nat} (ho : zt_oc mp b (k / 16 ^ b) = true) : ∀ e, b + e ≤ 4 → (∀ h, b < h → h ≤ b + e → zt_one mp k h = true) → nd (b + e) (k / 16 ^ (b + e)) = nd b (k / 16 ^ b) := by
  intro e
  induction e with
  | zero => intro _ _; rfl
  | succ e ih =>
    intro h1 h2
    have h3 := h2 (b + e + 1) (by omega) (by omega)
    rw [zt_one_S] at h3
    have ho' : zt_oc mp (b + e) (k / 16 ^ (b + e)) = true := by
      have := zt_oc_up ho e
      rw [zb_dva] at this
      exact this
    rw [← ih (by omega) (fun h a b => h2 h a (by omega))]
    show nd (b + e + 1) (k / 16 ^ (b + e + 1)) = _
    rw [TS (b + e) _ (by omega) h3, ← zt_fk_1 h3 ho' (zb_dv k (b + e)).symm]
/-- the map with k set, and with k taken out -/
def zt_up (mp : Nat → Option Int32) (k : Nat) (v : Int32) : Nat → Option Int32 := fun j => if j = k then some v else mp j
def zt_rm (mp : Nat → Option Int32) (k : Nat) : Nat → Option Int32 := fun j => if j = k then none else mp j
theorem zt_up_k {mp : Nat → Option Int32} {k : Nat} {v : Int32} : zt_up mp k v k = some v := if_pos rfl
theorem zt_up_n {mp : Nat → Option Int32} {k j : Nat} {v : Int32} (h : j ≠ k) : zt_up mp k v j = mp j := if_neg h
theorem zt_up_rm {mp : Nat → Option Int32} {k : Nat} {v : Int32} (h : mp k = some v) : zt_up (zt_rm mp k) k v = mp := by
  funext j
  by_cases e : j = k
  · subst e; rw [zt_up_k, h]
  · rw [zt_up_n e]; exact if_neg e
theorem zt_up_off {mq : Nat → Option Int32} {k : Nat} {v : Int32} {h g : Nat} (hg : ¬ g = k / 16 ^ h) : ∀ j, j / 16 ^ h = g → mq j = zt_up mq k v j := by
  intro j hj
  refine (zt_up_n ?_).symm
  intro e
  subst e
  exact hg hj.symm
theorem zt_up_oc {mq : Nat → Option Int32} {k : Nat} {v : Int32} {h g : Nat} : zt_oc (zt_up mq k v) h g = true ↔ zt_oc mq h g = true ∨ g = k / 16 ^ h := by
  rw [zt_oc_iff, zt_oc_iff]
  constructor
  · rintro ⟨j, h1, h2⟩
    by_cases e : j = k
    · subst e; exact Or.inr h2.symm
    · rw [zt_up_n e] at h1; exact Or.inl ⟨j, h1, h2⟩
  · rintro (⟨j, h1, h2⟩ | h2)
    · refine ⟨j, ?_, h2⟩
      by_cases e : j = k
      · subst e; rw [zt_up_k]; rfl
      · rw [zt_up_n e]; exact h1
    · exact ⟨k, by rw [zt_up_k]; rfl, h2.symm⟩
theorem zt_up_oc_off {mq : Nat → Option Int32} {k : Nat} {v : Int32} {h g : Nat} (hg : ¬ g = k / 16 ^ h) : zt_oc (zt_up mq k v) h g = zt_oc mq h g := (zt_oc_ext h g (zt_up_off hg)).symm
theorem zt_up_oc_on {mq : Nat → Option Int32} {k : Nat} {v : Int32} {h : Nat} : zt_oc (zt_up mq k v) h (k / 16 ^ h) = true := zt_up_oc.mpr (Or.inr rfl)
theorem zt_beq {a b : Bool} (h : a = true ↔ b = true) : a = b := by cases a <;> cases b <;> simp_all
theorem zt_nt {a : Bool} (h : ¬ a = true) : a = false := by cases a <;> simp_all
/-- the kids of the group on the way above an occupied group stay -/
theorem zt_up_p {mq : Nat → Option Int32} {k : Nat} {v : Int32} {h : Nat} (ho : zt_oc mq h (k / 16 ^ h) = true) (g : Nat) : zt_p (zt_up mq k v) h g = zt_p mq h g := by
  funext w
  apply zt_beq
  show zt_oc (zt_up mq k v) h _ = true ↔ zt_oc mq h _ = true
  rw [zt_up_oc]
  constructor
  · rintro (h1 | h1)
    · exact h1
    · rw [h1]; exact ho
  · exact Or.inl
theorem zt_up_kc {mq : Nat → Option Int32} {k : Nat} {v : Int32} {h : Nat} (ho : zt_oc mq h (k / 16 ^ h) = true) (g : Nat) : zt_kc (zt_up mq k v) h g = zt_kc mq h g := by
  unfold zt_kc; rw [zt_up_p ho]
theorem zt_up_fk {mq : Nat → Option Int32} {k : Nat} {v : Int32} {h : Nat} (ho : zt_oc mq h (k / 16 ^ h) = true) (g : Nat) : zt_fk (zt_up mq k v) h g = zt_fk mq h g := by
  unfold zt_fk; rw [zt_up_p ho]
/-- at the lowest occupied group the kid on the way is new -/
theorem zt_up_kc1 {mq : Nat → Option Int32} {k : Nat} {v : Int32} {h : Nat} (ho : ¬ zt_oc mq h (k / 16 ^ h) = true) : zt_kc (zt_up mq k v) h (k / 16 ^ (h + 1)) = zt_kc mq h (k / 16 ^ (h + 1)) + 1 := by
  refine zb_cnt_set (i := k / 16 ^ h % 16) 16 (by omega) ?_ ?_ ?_
  · intro j hj
    by_cases e : 16 * (k / 16 ^ (h + 1)) + j = k / 16 ^ h
    · have := zb_dm k h
      omega
    · exact zt_up_oc_off e
  · show zt_oc mq h (16 * (k / 16 ^ (h + 1)) + k / 16 ^ h % 16) = false
    rw [zb_dm]; exact zt_nt ho
  · show zt_oc (zt_up mq k v) h (16 * (k / 16 ^ (h + 1)) + k / 16 ^ h % 16) = true
    rw [zb_dm]; exact zt_up_oc_on
theorem zt_kc0 {mq : Nat → Option Int32} {h g : Nat} (ho : ¬ zt_oc mq (h + 1) g = true) : zt_kc mq h g = 0 := by
  rw [zt_oc_S] at ho; omega
/-- off the way kids stay -/
theorem zt_up_p_off {mq : Nat → Option Int32} {k : Nat} {v : Int32} {h g : Nat} (hg : ¬ g = k / 16 ^ (h + 1)) : ∀ w, w < 16 → zt_p (zt_up mq k v) h g w = zt_p mq h g w := by
  intro w hw
  refine zt_up_oc_off ?_
  intro e
  apply hg
  rw [zb_dv, ← e]
  omega
theorem zt_up_kc_off {mq : Nat → Option Int32} {k : Nat} {v : Int32} {h g : Nat} (hg : ¬ g = k / 16 ^ (h + 1)) : zt_kc (zt_up mq k v) h g = zt_kc mq h g := zb_cnt_ext 16 (zt_up_p_off hg)
theorem zt_up_fk_off {mq : Nat → Option Int32} {k : Nat} {v : Int32} {h g : Nat} (hg : ¬ g = k / 16 ^ (h + 1)) : zt_fk (zt_up mq k v) h g = zt_fk mq h g := by
  unfold zt_fk; rw [zb_fst_ext 16 (zt_up_p_off hg)]
theorem zt_up_mk_off {mq : Nat → Option Int32} {k : Nat} {v : Int32} {h g : Nat} (hg : ¬ g = k / 16 ^ (h + 1)) : zb_mk (zt_p (zt_up mq k v) h g) 16 = zb_mk (zt_p mq h g) 16 := zb_mk_ext 16 (zt_up_p_off hg)
/-- he: the lowest occupied height on the way (5: none) -/
def zt_he (mq : Nat → Option Int32) (k he : Nat) : Prop := he ≤ 5 ∧ (∀ h, h < he → ¬ zt_oc mq h (k / 16 ^ h) = true) ∧ ∀ h, he ≤ h → h ≤ 4 → zt_oc mq h (k / 16 ^ h) = true
theorem zt_he_ex (mq : Nat → Option Int32) (k : Nat) : ∃ he, zt_he mq k he := by
  by_cases h : ∃ h, zt_oc mq h (k / 16 ^ h) = true ∧ h ≤ 4
  · obtain ⟨he, ⟨h1, h2⟩, h3⟩ := pk_least (fun h => zt_oc mq h (k / 16 ^ h) = true ∧ h ≤ 4) h
    refine ⟨he, by omega, fun h a b => h3 h a ⟨b, by omega⟩, fun h a b => ?_⟩
    have := zt_oc_up h1 (h - he)
    rw [zb_dva, show he + (h - he) = h by omega] at this
    exact this
  · exact ⟨5, by omega, fun h' a b => h ⟨h', b, by omega⟩, fun h a b => by omega⟩
theorem zt_he_one_lt {mq : Nat → Option Int32} {k he : Nat} {v : Int32} (E : zt_he mq k he) {h : Nat} (h0 : 0 < h) (hh : h < he) : zt_one (zt_up mq k v) k h = true := by
  obtain ⟨h, rfl⟩ : ∃ m, h = m + 1 := ⟨h - 1, by omega⟩
  rw [zt_one_S, zt_up_kc1 (E.2.1 h (by omega)), zt_kc0 (E.2.1 (h + 1) hh)]
theorem zt_he_one_gt {mq : Nat → Option Int32} {k he : Nat} {v : Int32} (E : zt_he mq k he) {h : Nat} (hh : he < h) (h4 : h ≤ 4) : zt_one (zt_up mq k v) k h = zt_one mq k h := by
  obtain ⟨h, rfl⟩ : ∃ m, h = m + 1 := ⟨h - 1, by omega⟩
  apply zt_beq
  rw [zt_one_S, zt_one_S, zt_up_kc (E.2.2 h (by omega) (by omega))]
theorem zt_he_one_eq {mq : Nat → Option Int32} {k he : Nat} {v : Int32} (E : zt_he mq k he) (h4 : he ≤ 4) : zt_one (zt_up mq k v) k he = false := by
  rcases he with _ | h
  · rfl
  · apply zt_nt
    have := (zt_oc_S mq h _).mp (E.2.2 (h + 1) (Nat.le_refl _) h4)
    rw [zt_one_S, zt_up_kc1 (E.2.1 h (by omega))]
    omega
/-- the way in the map without k: the branching heights above he, then he -/
theorem zt_pl_q {mq : Nat → Option Int32} {k he : Nat} (E : zt_he mq k he) (h1 : 1 ≤ he) : ∀ e, he + e ≤ 4 → zt_pl mq k (he + e) = zt_bu mq k (he + 1) e ++ [he] := by
  obtain ⟨h, rfl⟩ : ∃ m, he = m + 1 := ⟨he - 1, by omega⟩
  intro e
  induction e with
  | zero =>
    intro _
    rw [Nat.add_zero, zt_pl, if_neg (E.2.1 h (by omega)), if_neg (E.2.1 h (by omega))]
    split <;> rfl
  | succ e ih =>
    intro h4
    have o := E.2.2 (h + 1 + e) (by omega) (by omega)
    rw [show h + 1 + (e + 1) = h + 1 + e + 1 by omega, zt_pl, if_pos o, ih (by omega), zt_bu]
    have e1 : zt_one mq k (h + 1 + 1 + e) = true ↔ zt_kc mq (h + 1 + e) (k / 16 ^ (h + 1 + e + 1)) = 1 := by
      rw [show h + 1 + 1 + e = h + 1 + e + 1 by omega, zt_one_S]
    by_cases c : zt_kc mq (h + 1 + e) (k / 16 ^ (h + 1 + e + 1)) = 1
    · rw [if_pos c, if_pos (e1.mpr c)]
    · rw [if_neg c, if_neg (fun z => c (e1.mp z)), show h + 1 + 1 + e = h + 1 + e + 1 by omega, if_pos o]; rfl
/-- the way in a map with k: all branching heights, and the leaf -/
theorem zt_pl_p {mp : Nat → Option Int32} {k : Nat} (hk : (mp k).isSome = true) : ∀ h, zt_pl mp k h = zt_bu mp k 0 (h + 1) := by
  intro h
  induction h with
  | zero => rfl
  | succ h ih =>
    have o := zt_oc_key hk h
    rw [zt_pl, if_pos o, zt_bu, ← ih, Nat.zero_add]
    by_cases c : zt_kc mp h (k / 16 ^ (h + 1)) = 1
    · rw [if_pos c, if_pos (zt_one_S.mpr c)]
    · rw [if_neg c, if_neg (fun z => c (zt_one_S.mp z)), if_pos o]
end
section
/-! X's rehashPath -/
/-- all hashes are right but, on the way to k, those at heights from c on -/
def zt_I (s b : Int32) (mp : Nat → Option Int32) (nd : Nat → Nat → Nat) (hash : Nat → Int32) (k c : Nat) : Prop :=
  ∀ h g, h ≤ 4 → zt_oc mp h g = true → (g = k / 16 ^ h → h < c) → hash (nd h g) = zh_H s b (zt_nw s b mp h g)
theorem zt_I_TH {s b : Int32} {mp : Nat → Option Int32} {nd : Nat → Nat → Nat} {hash : Nat → Int32} {k : Nat} (h : zt_I s b mp nd hash k 5) : zt_TH s b mp nd hash := fun h' g hh ho => h h' g hh ho (fun _ => by omega)
theorem zt_I_one {s b : Int32} {mp : Nat → Option Int32} {nd : Nat → Nat → Nat} {hash : Nat → Int32} {k c : Nat} (TS : zt_TS mp nd) (hc : zt_one mp k c = true) (I : zt_I s b mp nd hash k c) : zt_I s b mp nd hash k (c + 1) := by
  intro h g hh ho hg
  by_cases e : g = k / 16 ^ h ∧ h = c
  · obtain ⟨rfl, rfl⟩ := e
    rcases h with _ | h
    · exact absurd hc (by rw [zt_one]; decide)
    · rw [zt_one_S] at hc
      obtain ⟨f1, f2⟩ := zt_fk_ok (mp := mp) (h := h) (g := k / 16 ^ (h + 1)) (by omega)
      rw [TS h _ (by omega) hc, zt_nw, if_pos hc]
      exact I h _ (by omega) f2 (fun _ => by omega)
  · refine I h g hh ho (fun eg => ?_)
    have := hg eg
    apply Classical.byContradiction
    intro hn
    exact e ⟨eg, by omega⟩
theorem zt_I_set {s b : Int32} {mp : Nat → Option Int32} {nd : Nat → Nat → Nat} {tag second third kids hash : Nat → Int32} {k c : Nat} (T : zt_T mp nd tag second third kids) (hc : zt_cn mp c (k / 16 ^ c)) (I : zt_I s b mp nd hash k c) :
    zt_I s b mp nd (upd hash (nd c (k / 16 ^ c)) (zh_H s b (zt_nw s b mp c (k / 16 ^ c)))) k (c + 1) := by
  intro h g hh ho hg
  by_cases e : nd h g = nd c (k / 16 ^ c)
  · rw [e, pk_us, (zt_nd_eq (s := s) (b := b) T hh ho hc e).2.2]
  · rw [pk_un e]
    refine I h g hh ho (fun eg => ?_)
    have := hg eg
    apply Classical.byContradiction
    intro hn
    have ec : h = c := by omega
    subst ec
    rw [eg] at e
    exact e rfl
theorem zb_sub1 (x : Int32) : x - 1 = x + (-1) := by rw [Int32.sub_eq_add_neg]
section
variable {f_capacity f_seed f_bits f_freeCount f_top f_pairs f_pathLen f_status f_claimRoot f_claimKey f_fedLen f_node f_need f_running f_expected f_level : Int32} {a_tag a_second a_third a_hash a_kids a_freeIds a_path a_fed a_starts : Nat → Int32}
theorem zx_rehashPath_l {post : SX → Prop} {mp : Nat → Option Int32} {nd : Nat → Nat → Nat} {k b : Nat} {z : Int32} (T : zt_T mp nd a_tag a_second a_third a_kids) (hob : ∀ h, b ≤ h → h ≤ 4 → zt_oc mp h (k / 16 ^ h) = true) :
    ∀ e, b + e ≤ 5 → ∀ off n (hash : Nat → Int32), (∀ i a, (zt_bu mp k b e)[i]? = some a → a_path (off + i) = nI (nd a (k / 16 ^ a))) → off + (zt_bu mp k b e).length ≤ 5 → zt_I f_seed f_bits mp nd hash k b → hash 0 = z →
      (∀ hash', zt_I f_seed f_bits mp nd hash' k (b + e) → hash' 0 = z → wX_rehashPath_7 post n (nI off + (-1)) f_capacity f_seed f_bits f_freeCount f_top f_pairs f_pathLen f_status f_claimRoot f_claimKey f_fedLen f_node f_need f_running f_expected f_level a_tag a_second a_third hash' a_kids a_freeIds a_path a_fed a_starts) →
      wX_rehashPath_7 post (n + (zt_bu mp k b e).length) (nI (off + (zt_bu mp k b e).length) + (-1)) f_capacity f_seed f_bits f_freeCount f_top f_pairs f_pathLen f_status f_claimRoot f_claimKey f_fedLen f_node f_need f_running f_expected f_level a_tag a_second a_third hash a_kids a_freeIds a_path a_fed a_starts := by
  intro e
  induction e with
  | zero => intro _ off n hash _ _ I hz H; exact H hash I hz
  | succ e ih =>
    intro he off n hash hp hl I hz H
    by_cases o : zt_one mp k (b + e) = true
    · rw [zt_bu, if_pos o] at hp hl ⊢
      refine ih (by omega) off n hash hp hl I hz ?_
      intro hash' I' hz'
      exact H hash' (zt_I_one T.2.2.2 o I') hz'
    · rw [zt_bu, if_neg o] at hp hl ⊢
      rw [List.length_cons] at hl ⊢
      have hc := zt_cn_way (show b + e ≤ 4 by omega) (hob _ (by omega) (by omega)) o
      have hf := zt_cn_f T hc
      have := ih (by omega) (off + 1) (n + 1) hash (fun i a hi => by rw [show off + 1 + i = off + (i + 1) by omega]; exact hp (i + 1) a hi) (by omega) I hz (by
        intro hash' I' hz'
        rw [pk_m1]
        refine br_f (nI_pos (by omega)) ⟨vp_in_nI (by omega) (by omega), ?_⟩
        have hp0 := hp 0 _ rfl
        rw [Nat.add_zero] at hp0
        rw [nI_clamp (by omega), hp0]
        refine zx_rehash (zt_W_of (s := f_seed) (b := f_bits) T (by omega) hc.1 (fun a g' ha _ ho => I' a g' (by omega) ho (fun _ => ha))) ?_ (nm_e (H _ (zt_I_set T hc I') ((pk_un (by omega)).trans hz')))
        rw [hf.1]
        refine nI_ne0 ?_ ?_
        · split <;> omega
        · split <;> omega)
      rw [show n + ((zt_bu mp k b e).length + 1) = n + 1 + (zt_bu mp k b e).length by omega, show off + ((zt_bu mp k b e).length + 1) = off + 1 + (zt_bu mp k b e).length by omega]
      exact this
theorem zx_rehashPath {post : SX → Prop} {mp : Nat → Option Int32} {nd : Nat → Nat → Nat} {k b : Nat} (T : zt_T mp nd a_tag a_second a_third a_kids) (hb : b ≤ 5) (hob : ∀ h, b ≤ h → h ≤ 4 → zt_oc mp h (k / 16 ^ h) = true)
    (hl : f_pathLen = nI (zt_bu mp k b (5 - b)).length) (hp : ∀ i a, (zt_bu mp k b (5 - b))[i]? = some a → a_path i = nI (nd a (k / 16 ^ a))) (I : zt_I f_seed f_bits mp nd a_hash k b)
    (H : ∀ hash', zt_TH f_seed f_bits mp nd hash' → hash' 0 = a_hash 0 → post (f_capacity, f_seed, f_bits, f_freeCount, f_top, f_pairs, f_pathLen, f_status, f_claimRoot, f_claimKey, f_fedLen, f_node, f_need, f_running, f_expected, f_level, a_tag, a_second, a_third, hash', a_kids, a_freeIds, a_path, a_fed, a_starts)) : wpX_rehashPath post (f_capacity, f_seed, f_bits, f_freeCount, f_top, f_pairs, f_pathLen, f_status, f_claimRoot, f_claimKey, f_fedLen, f_node, f_need, f_running, f_expected, f_level, a_tag, a_second, a_third, a_hash, a_kids, a_freeIds, a_path, a_fed, a_starts) := by
  subst hl
  have hlen := zt_bu_len mp k b (5 - b)
  refine nm_e ⟨1 + (zt_bu mp k b (5 - b)).length, ?_⟩
  rw [zb_sub1]
  have := zx_rehashPath_l (post := post) (f_capacity := f_capacity) (f_seed := f_seed) (f_bits := f_bits) (f_freeCount := f_freeCount) (f_top := f_top) (f_pairs := f_pairs) (f_pathLen := nI (zt_bu mp k b (5 - b)).length) (f_status := f_status) (f_claimRoot := f_claimRoot) (f_claimKey := f_claimKey) (f_fedLen := f_fedLen) (f_node := f_node) (f_need := f_need) (f_running := f_running) (f_expected := f_expected) (f_level := f_level) (a_freeIds := a_freeIds) (a_path := a_path) (a_fed := a_fed) (a_starts := a_starts) T hob (5 - b) (by omega) 0 1 a_hash (fun i a hi => by rw [Nat.zero_add]; exact hp i a hi) (by omega) I rfl (by
    intro hash' I' hz'
    rw [show b + (5 - b) = 5 by omega] at I'
    exact br_t (by decide) (H hash' (zt_I_TH I') hz'))
  rw [Nat.zero_add] at this
  exact this
end
end
section
/-! a key put in, a key taken out: the ids -/
theorem zt_k0 (k : Nat) : k / 16 ^ 0 = k := by rw [Nat.pow_zero, Nat.div_one]
theorem zt_w_on {k h w : Nat} (e : 16 * (k / 16 ^ (h + 1)) + w = k / 16 ^ h) : w = k / 16 ^ h % 16 := by
  have := zb_dm k h; omega
theorem zt_off {k h g w : Nat} (hg : ¬ g = k / 16 ^ (h + 1)) (hw : w < 16) : ¬ 16 * g + w = k / 16 ^ h := by
  intro e
  apply hg
  rw [zb_dv, ← e]; omega
theorem zt_off_fk {mp : Nat → Option Int32} {k h g : Nat} (hg : ¬ g = k / 16 ^ (h + 1)) (hk : 0 < zt_kc mp h g) : ¬ zt_fk mp h g = k / 16 ^ h := by
  intro e
  apply hg
  rw [zb_dv, ← e, (zt_fk_ok hk).1]
def zt_ni (nd : Nat → Nat → Nat) (k he h2 lf nb : Nat) : Nat → Nat → Nat := fun h g => if g = k / 16 ^ h then (if h < he then lf else if h < h2 then nb else nd h g) else nd h g
theorem zt_ni_lf {nd : Nat → Nat → Nat} {k he h2 lf nb h : Nat} (hh : h < he) : zt_ni nd k he h2 lf nb h (k / 16 ^ h) = lf := by
  unfold zt_ni; rw [if_pos rfl, if_pos hh]
theorem zt_ni_nb {nd : Nat → Nat → Nat} {k he h2 lf nb h : Nat} (hh : he ≤ h) (h3 : h < h2) : zt_ni nd k he h2 lf nb h (k / 16 ^ h) = nb := by
  unfold zt_ni; rw [if_pos rfl, if_neg (by omega), if_pos h3]
theorem zt_ni_nd {nd : Nat → Nat → Nat} {k he h2 lf nb h : Nat} (hh : he ≤ h) (h3 : h2 ≤ h) : zt_ni nd k he h2 lf nb h (k / 16 ^ h) = nd h (k / 16 ^ h) := by
  unfold zt_ni; rw [if_pos rfl, if_neg (by omega), if_neg (by omega)]
theorem zt_ni_off {nd : Nat → Nat → Nat} {k he h2 lf nb h g : Nat} (hg : ¬ g = k / 16 ^ h) : zt_ni nd k he h2 lf nb h g = nd h g := if_neg hg
theorem zt_ins {mq : Nat → Option Int32} {nd : Nat → Nat → Nat} {tag second third kids tag' second' third' kids' : Nat → Int32} {k he h2 lf nb : Nat} {v : Int32}
    (T : zt_T mq nd tag second third kids) (hk : k < 65536) (E : zt_he mq k he) (h1 : 1 ≤ he) (h2a : he ≤ h2) (h2c : ∀ h, he < h → h < h2 → zt_one mq k h = true) (h2d : he < h2 → h2 ≤ 4 → zt_one mq k h2 = false)
    (hL : 1 ≤ lf ∧ lf < 32 ∧ tag' lf = 1 ∧ second' lf = nI k ∧ third' lf = v)
    (hE : ∀ c gc, zt_cn mq c gc → ¬ (c = he ∧ gc = k / 16 ^ he) → tag' (nd c gc) = tag (nd c gc) ∧ second' (nd c gc) = second (nd c gc) ∧ third' (nd c gc) = third (nd c gc))
    (hEk : ∀ c gc w, zt_cn mq c gc → ¬ (c = he ∧ gc = k / 16 ^ he) → w < 16 → ¬ (c = h2 ∧ 16 * gc + w = k / 16 ^ (h2 - 1)) → kids' (16 * nd c gc + w) = kids (16 * nd c gc + w))
    (hN : ∀ h', he = h' + 1 → he ≤ 4 → 1 ≤ zt_ni nd k he h2 lf nb he (k / 16 ^ he) ∧ zt_ni nd k he h2 lf nb he (k / 16 ^ he) < 32 ∧ tag' (zt_ni nd k he h2 lf nb he (k / 16 ^ he)) = nI (5 - h') ∧ second' (zt_ni nd k he h2 lf nb he (k / 16 ^ he)) = nI (k / 16 ^ he * 16 ^ he) ∧
      third' (zt_ni nd k he h2 lf nb he (k / 16 ^ he)) = zb_mk (zt_p (zt_up mq k v) h' (k / 16 ^ he)) 16 ∧
      ∀ w, w < 16 → zt_oc (zt_up mq k v) h' (16 * (k / 16 ^ he) + w) = true → kids' (16 * zt_ni nd k he h2 lf nb he (k / 16 ^ he) + w) = nI (zt_ni nd k he h2 lf nb h' (16 * (k / 16 ^ he) + w)))
    (hP : ∀ c', he < h2 → h2 = c' + 1 → h2 ≤ 4 → kids' (16 * nd h2 (k / 16 ^ h2) + k / 16 ^ c' % 16) = nI nb) :
    zt_T (zt_up mq k v) (zt_ni nd k he h2 lf nb) tag' second' third' kids' := by
  refine ⟨?_, ?_, ?_, ?_⟩
  · intro j hj
    rw [zt_up_n (by omega)]
    exact T.1 j hj
  · intro g ho
    by_cases eg : g = k / 16 ^ 0
    · subst eg
      rw [zt_ni_lf (by omega), zt_k0, zt_up_k]
      exact hL
    · rw [zt_ni_off eg]
      rw [zt_up_oc_off eg] at ho
      rw [zt_k0] at eg
      obtain ⟨a1, a2, a3, a4, a5⟩ := T.2.1 g ho
      obtain ⟨b1, b2, b3⟩ := hE 0 g ⟨ho, by omega, Or.inl rfl⟩ (fun z => by omega)
      rw [b1, b2, b3, zt_up_n eg]
      exact ⟨a1, a2, a3, a4, a5⟩
  · intro h g hh hc
    by_cases eg : g = k / 16 ^ (h + 1)
    · subst eg
      rcases Nat.lt_trichotomy (h + 1) he with hlt | heq | hgt
      · have := zt_he_one_lt (v := v) E (show 0 < h + 1 by omega) hlt
        rw [zt_one_S] at this
        omega
      · subst heq
        exact hN h rfl (by omega)
      · have o := E.2.2 h (by omega) (by omega)
        rw [zt_up_kc o] at hc
        have h3 : ¬ h + 1 < h2 := by
          intro hl
          have := h2c (h + 1) hgt hl
          rw [zt_one_S] at this
          omega
        have cn : zt_cn mq (h + 1) (k / 16 ^ (h + 1)) := ⟨E.2.2 (h + 1) (by omega) (by omega), by omega, Or.inr ⟨h, rfl, hc⟩⟩
        obtain ⟨a1, a2, a3, a4, a5, a6⟩ := T.2.2.1 h _ hh hc
        obtain ⟨b1, b2, b3⟩ := hE (h + 1) _ cn (fun z => by omega)
        rw [zt_ni_nd (by omega) (by omega), b1, b2, b3, zt_up_p o]
        refine ⟨a1, a2, a3, a4, a5, ?_⟩
        intro w hw ho
        by_cases ew : 16 * (k / 16 ^ (h + 1)) + w = k / 16 ^ h
        · rw [ew]
          by_cases hl : h < h2
          · have e2 : h2 = h + 1 := by omega
            subst e2
            rw [zt_ni_nb (by omega) (by omega), zt_w_on ew]
            exact hP h (by omega) rfl (by omega)
          · rw [zt_ni_nd (by omega) (by omega), hEk (h + 1) _ w cn (fun z => by omega) hw (fun z => by omega), a6 w hw (by rw [ew]; exact o), ew]
        · rw [zt_up_oc_off ew] at ho
          rw [zt_ni_off ew, hEk (h + 1) _ w cn (fun z => by omega) hw (fun z => ?_), a6 w hw ho]
          obtain ⟨z1, z2⟩ := z
          subst z1
          exact ew z2
    · rw [zt_up_kc_off eg] at hc
      have cn : zt_cn mq (h + 1) g := ⟨(zt_oc_S mq h g).mpr (by omega), by omega, Or.inr ⟨h, rfl, hc⟩⟩
      have nhe : ¬ (h + 1 = he ∧ g = k / 16 ^ he) := by
        rintro ⟨z1, z2⟩
        subst z1
        exact eg z2
      obtain ⟨a1, a2, a3, a4, a5, a6⟩ := T.2.2.1 h _ hh hc
      obtain ⟨b1, b2, b3⟩ := hE (h + 1) _ cn nhe
      rw [zt_ni_off eg, b1, b2, b3, zt_up_mk_off eg]
      refine ⟨a1, a2, a3, a4, a5, ?_⟩
      intro w hw ho
      have ew := zt_off eg hw
      rw [zt_up_oc_off ew] at ho
      rw [zt_ni_off ew, hEk (h + 1) _ w cn nhe hw (fun z => ?_), a6 w hw ho]
      obtain ⟨z1, z2⟩ := z
      subst z1
      exact ew z2
  · intro h g hh hc
    by_cases eg : g = k / 16 ^ (h + 1)
    · subst eg
      have hf : k / 16 ^ h = zt_fk (zt_up mq k v) h (k / 16 ^ (h + 1)) := zt_fk_1 hc zt_up_oc_on (zb_dv k h).symm
      rw [← hf]
      rcases Nat.lt_trichotomy (h + 1) he with hlt | heq | hgt
      · rw [zt_ni_lf hlt, zt_ni_lf (by omega)]
      · subst heq
        have := zt_he_one_eq (v := v) E (by omega)
        rw [zt_one_S.mpr hc] at this
        cases this
      · have o := E.2.2 h (by omega) (by omega)
        rw [zt_up_kc o] at hc
        have hn : ¬ h2 = h + 1 := by
          intro e2
          subst e2
          have := h2d (by omega) (by omega)
          rw [zt_one_S.mpr hc] at this
          cases this
        by_cases hl : h + 1 < h2
        · rw [zt_ni_nb (by omega) hl, zt_ni_nb (by omega) (by omega)]
        · rw [zt_ni_nd (by omega) (by omega), zt_ni_nd (by omega) (by omega), T.2.2.2 h _ hh hc, ← zt_fk_1 hc o (zb_dv k h).symm]
    · rw [zt_up_kc_off eg] at hc
      rw [zt_ni_off eg, zt_up_fk_off eg, zt_ni_off (zt_off_fk eg (by omega)), T.2.2.2 h _ hh hc]
def zt_nr (nd : Nat → Nat → Nat) (k he h3 oth : Nat) : Nat → Nat → Nat := fun h g => if g = k / 16 ^ h ∧ he ≤ h ∧ h < h3 then oth else nd h g
theorem zt_nr_o {nd : Nat → Nat → Nat} {k he h3 oth h : Nat} (hh : he ≤ h) (h4 : h < h3) : zt_nr nd k he h3 oth h (k / 16 ^ h) = oth := if_pos ⟨rfl, hh, h4⟩
theorem zt_nr_hi {nd : Nat → Nat → Nat} {k he h3 oth h g : Nat} (h4 : h3 ≤ h) : zt_nr nd k he h3 oth h g = nd h g := if_neg (fun z => by omega)
theorem zt_nr_off {nd : Nat → Nat → Nat} {k he h3 oth h g : Nat} (hg : ¬ g = k / 16 ^ h) : zt_nr nd k he h3 oth h g = nd h g := if_neg (fun z => hg z.1)
theorem zt_del {mq : Nat → Option Int32} {nd : Nat → Nat → Nat} {tag second third kids tag' second' third' kids' : Nat → Int32} {k he h3 oth : Nat} {v : Int32}
    (T : zt_T (zt_up mq k v) nd tag second third kids) (E : zt_he mq k he) (h1 : 1 ≤ he) (h3a : he ≤ h3) (h3c : ∀ h, he < h → h < h3 → zt_one mq k h = true) (h3d : he < h3 → h3 ≤ 4 → zt_one mq k h3 = false)
    (hC : he ≤ 4 → (he < h3 ↔ zt_one mq k he = true)) (hO : ∀ h', he < h3 → he = h' + 1 → oth = nd h' (zt_fk mq h' (k / 16 ^ he)))
    (hE : ∀ c gc, zt_cn (zt_up mq k v) c gc → ¬ (c = 0 ∧ gc = k) → ¬ (c = he ∧ gc = k / 16 ^ he) → tag' (nd c gc) = tag (nd c gc) ∧ second' (nd c gc) = second (nd c gc) ∧ third' (nd c gc) = third (nd c gc))
    (hEk : ∀ c gc w, zt_cn (zt_up mq k v) c gc → ¬ (c = he ∧ gc = k / 16 ^ he) → w < 16 → ¬ (he < h3 ∧ c = h3 ∧ 16 * gc + w = k / 16 ^ (h3 - 1)) → kids' (16 * nd c gc + w) = kids (16 * nd c gc + w))
    (hN : ∀ h', h3 = he → he = h' + 1 → he ≤ 4 → tag' (nd he (k / 16 ^ he)) = tag (nd he (k / 16 ^ he)) ∧ second' (nd he (k / 16 ^ he)) = second (nd he (k / 16 ^ he)) ∧
      third' (nd he (k / 16 ^ he)) = zb_mk (zt_p mq h' (k / 16 ^ he)) 16 ∧ ∀ w, w < 16 → kids' (16 * nd he (k / 16 ^ he) + w) = kids (16 * nd he (k / 16 ^ he) + w))
    (hP : ∀ c', he < h3 → h3 = c' + 1 → h3 ≤ 4 → kids' (16 * nd h3 (k / 16 ^ h3) + k / 16 ^ c' % 16) = nI oth) :
    zt_T mq (zt_nr nd k he h3 oth) tag' second' third' kids' := by
  refine ⟨?_, ?_, ?_, ?_⟩
  · intro j hj
    by_cases e : j = k
    · subst e
      have h0 := E.2.1 0 (by omega)
      rw [zt_k0] at h0
      have h0 : ¬ (mq j).isSome = true := h0
      cases hq : mq j with
      | none => rfl
      | some q => rw [hq] at h0; exact absurd rfl h0
    · have := T.1 j hj
      rw [zt_up_n e] at this
      exact this
  · intro g ho
    have eg : ¬ g = k / 16 ^ 0 := by
      intro e
      subst e
      exact E.2.1 0 (by omega) ho
    have eg' : ¬ g = k := by rw [zt_k0] at eg; exact eg
    have ho' : zt_oc (zt_up mq k v) 0 g = true := zt_up_oc.mpr (Or.inl ho)
    rw [zt_nr_off eg]
    obtain ⟨a1, a2, a3, a4, a5⟩ := T.2.1 g ho'
    obtain ⟨b1, b2, b3⟩ := hE 0 g ⟨ho', by omega, Or.inl rfl⟩ (fun z => eg' z.2) (fun z => by omega)
    rw [zt_up_n eg'] at a5
    rw [b1, b2, b3]
    exact ⟨a1, a2, a3, a4, a5⟩
  · intro h g hh hc
    have hoc : zt_oc mq (h + 1) g = true := (zt_oc_S mq h g).mpr (by omega)
    by_cases eg : g = k / 16 ^ (h + 1)
    · subst eg
      have hge : he ≤ h + 1 := by
        apply Classical.byContradiction
        intro hl
        exact E.2.1 (h + 1) (by omega) hoc
      by_cases heq : he = h + 1
      · subst heq
        have hnc : ¬ zt_one mq k (h + 1) = true := by
          intro z
          rw [zt_one_S] at z
          omega
        have e3 : h3 = h + 1 := by
          apply Classical.byContradiction
          intro z
          exact hnc ((hC (by omega)).mp (by omega))
        subst e3
        obtain ⟨b1, b2, b3, b4⟩ := hN h rfl rfl (by omega)
        obtain ⟨a1, a2, a3, a4, a5, a6⟩ := T.2.2.1 h (k / 16 ^ (h + 1)) hh (by rw [zt_up_kc1 (E.2.1 h (by omega))]; omega)
        rw [zt_nr_hi (Nat.le_refl _), b1, b2, b3]
        refine ⟨a1, a2, a3, a4, rfl, ?_⟩
        intro w hw ho
        have ew : ¬ 16 * (k / 16 ^ (h + 1)) + w = k / 16 ^ h := by
          intro e
          rw [e] at ho
          exact E.2.1 h (by omega) ho
        rw [b4 w hw, zt_nr_off ew, a6 w hw (zt_up_oc.mpr (Or.inl ho))]
      · have o := E.2.2 h (by omega) (by omega)
        have h4 : ¬ h + 1 < h3 := by
          intro hl
          have := h3c (h + 1) (by omega) hl
          rw [zt_one_S] at this
          omega
        have hc' := hc
        rw [← zt_up_kc (v := v) o] at hc'
        have cn : zt_cn (zt_up mq k v) (h + 1) (k / 16 ^ (h + 1)) := ⟨zt_up_oc_on, by omega, Or.inr ⟨h, rfl, hc'⟩⟩
        obtain ⟨a1, a2, a3, a4, a5, a6⟩ := T.2.2.1 h _ hh hc'
        obtain ⟨b1, b2, b3⟩ := hE (h + 1) _ cn (fun z => by omega) (fun z => by omega)
        rw [zt_nr_hi (by omega), b1, b2, b3]
        rw [zt_up_p o] at a5
        refine ⟨a1, a2, a3, a4, a5, ?_⟩
        intro w hw ho
        by_cases ew : 16 * (k / 16 ^ (h + 1)) + w = k / 16 ^ h
        · rw [ew]
          by_cases hl : h < h3
          · have e2 : h3 = h + 1 := by omega
            subst e2
            rw [zt_nr_o (by omega) (by omega), zt_w_on ew]
            exact hP h (by omega) rfl (by omega)
          · rw [zt_nr_hi (by omega), hEk (h + 1) _ w cn (fun z => by omega) hw (fun z => by omega), a6 w hw (zt_up_oc.mpr (Or.inl ho)), ew]
        · rw [zt_nr_off ew, hEk (h + 1) _ w cn (fun z => by omega) hw (fun z => ?_), a6 w hw (zt_up_oc.mpr (Or.inl ho))]
          obtain ⟨_, z1, z2⟩ := z
          subst z1
          exact ew z2
    · have hc' := hc
      rw [← zt_up_kc_off (v := v) eg] at hc'
      have cn : zt_cn (zt_up mq k v) (h + 1) g := ⟨zt_up_oc.mpr (Or.inl hoc), by omega, Or.inr ⟨h, rfl, hc'⟩⟩
      have nhe : ¬ (h + 1 = he ∧ g = k / 16 ^ he) := by
        rintro ⟨z1, z2⟩
        subst z1
        exact eg z2
      obtain ⟨a1, a2, a3, a4, a5, a6⟩ := T.2.2.1 h _ hh hc'
      obtain ⟨b1, b2, b3⟩ := hE (h + 1) _ cn (fun z => by omega) nhe
      rw [zt_nr_off eg, b1, b2, b3]
      rw [zt_up_mk_off eg] at a5
      refine ⟨a1, a2, a3, a4, a5, ?_⟩
      intro w hw ho
      have ew := zt_off eg hw
      rw [zt_nr_off ew, hEk (h + 1) _ w cn nhe hw (fun z => ?_), a6 w hw (zt_up_oc.mpr (Or.inl ho))]
      obtain ⟨_, z1, z2⟩ := z
      subst z1
      exact ew z2
  · intro h g hh hc
    by_cases eg : g = k / 16 ^ (h + 1)
    · subst eg
      have hge : he ≤ h + 1 := by
        apply Classical.byContradiction
        intro hl
        have := zt_kc0 (E.2.1 (h + 1) (by omega))
        omega
      by_cases heq : he = h + 1
      · subst heq
        have hl := (hC (by omega)).mpr (zt_one_S.mpr hc)
        have hf : ¬ zt_fk mq h (k / 16 ^ (h + 1)) = k / 16 ^ h := by
          intro e
          have := (zt_fk_ok (mp := mq) (h := h) (g := k / 16 ^ (h + 1)) (by omega)).2
          rw [e] at this
          exact E.2.1 h (by omega) this
        rw [zt_nr_o (Nat.le_refl _) hl, zt_nr_off hf, hO h hl rfl]
      · have o := E.2.2 h (by omega) (by omega)
        have hn : he < h3 → ¬ h3 = h + 1 := by
          intro hl e2
          subst e2
          have := h3d hl (by omega)
          rw [zt_one_S.mpr hc] at this
          cases this
        have hf : k / 16 ^ h = zt_fk mq h (k / 16 ^ (h + 1)) := zt_fk_1 hc o (zb_dv k h).symm
        rw [← hf]
        by_cases hl : h + 1 < h3
        · rw [zt_nr_o (by omega) hl, zt_nr_o (by omega) (by omega)]
        · have h5 : h3 ≤ h := by
            apply Classical.byContradiction
            intro z
            exact hn (by omega) (by omega)
          rw [zt_nr_hi (by omega), zt_nr_hi h5, T.2.2.2 h _ hh (by rw [zt_up_kc o]; exact hc), zt_up_fk o, ← hf]
    · have hc' := hc
      rw [← zt_up_kc_off (v := v) eg] at hc'
      rw [zt_nr_off eg, zt_nr_off (zt_off_fk eg (by omega)), T.2.2.2 h _ hh hc', zt_up_fk_off eg]
end
section
/-! counts of nodes, the free ids, hashes after a change -/
def zt_sum (f : Nat → Nat) : Nat → Nat
  | 0 => 0
  | n + 1 => zt_sum f n + f n
theorem zt_sum_ext {f g : Nat → Nat} : ∀ n, (∀ i, i < n → f i = g i) → zt_sum f n = zt_sum g n := by
  intro n
  induction n with
  | zero => intro _; rfl
  | succ n ih => intro h; rw [zt_sum, zt_sum, ih (fun i hi => h i (by omega)), h n (by omega)]
theorem zt_sum_set {f g : Nat → Nat} {i d : Nat} : ∀ n, i < n → (∀ j, j < n → j ≠ i → g j = f j) → g i = f i + d → zt_sum g n = zt_sum f n + d := by
  intro n
  induction n with
  | zero => intro h; omega
  | succ n ih =>
    intro hi hj he
    rw [zt_sum, zt_sum]
    by_cases e : i = n
    · subst e
      rw [he, zt_sum_ext i (fun j hl => hj j (by omega) (by omega))]
      omega
    · rw [ih (by omega) (fun j a b => hj j (by omega) b) he, hj n (by omega) (by omega)]
      omega
def zt_nl (mp : Nat → Option Int32) : Nat → Nat → Nat
  | 0, g => if zt_oc mp 0 g = true then 1 else 0
  | h + 1, g => zt_sum (fun v => zt_nl mp h (16 * g + v)) 16
def zt_sz (mp : Nat → Option Int32) : Nat → Nat → Nat
  | 0, g => if zt_oc mp 0 g = true then 1 else 0
  | h + 1, g => zt_sum (fun v => zt_sz mp h (16 * g + v)) 16 + (if 2 ≤ zt_kc mp h g then 1 else 0)
theorem zt_sum_bound {p : Nat → Bool} {f g : Nat → Nat} : ∀ n, (∀ i, i < n → p i = true → f i + 1 ≤ 2 * g i) → (∀ i, i < n → p i = false → f i = 0) → zt_sum f n + zb_cnt p n ≤ 2 * zt_sum g n := by
  intro n
  induction n with
  | zero => intro _ _; exact Nat.le_refl 0
  | succ n ih =>
    intro h1 h2
    have := ih (fun i hi => h1 i (by omega)) (fun i hi => h2 i (by omega))
    rw [zt_sum, zt_sum, zb_cnt]
    by_cases hp : p n = true
    · have := h1 n (by omega) hp
      rw [if_pos hp]; omega
    · have := h2 n (by omega) (zt_nt hp)
      rw [if_neg hp]; omega
theorem zt_sum_0 {f : Nat → Nat} : ∀ n, (∀ i, i < n → f i = 0) → zt_sum f n = 0 := by
  intro n
  induction n with
  | zero => intro _; rfl
  | succ n ih => intro h; rw [zt_sum, ih (fun i hi => h i (by omega)), h n (by omega)]
theorem zt_sz_0 {mp : Nat → Option Int32} : ∀ h g, ¬ zt_oc mp h g = true → zt_sz mp h g = 0 ∧ zt_nl mp h g = 0 := by
  intro h
  induction h with
  | zero => intro g ho; rw [zt_sz, zt_nl, if_neg ho]; exact ⟨rfl, rfl⟩
  | succ h ih =>
    intro g ho
    have hk := zt_kc0 ho
    have hz : ∀ v, v < 16 → ¬ zt_oc mp h (16 * g + v) = true := fun v hv z => by
      have := zb_cnt_0 hk hv
      have z' : zt_p mp h g v = true := z
      rw [this] at z'
      cases z'
    rw [zt_sz, zt_nl, hk, if_neg (by omega), zt_sum_0 16 (fun v hv => (ih _ (hz v hv)).1), zt_sum_0 16 (fun v hv => (ih _ (hz v hv)).2)]
    exact ⟨rfl, rfl⟩
theorem zt_sz_le {mp : Nat → Option Int32} : ∀ h g, zt_oc mp h g = true → zt_sz mp h g + 1 ≤ 2 * zt_nl mp h g := by
  intro h
  induction h with
  | zero => intro g ho; rw [zt_sz, zt_nl, if_pos ho]; omega
  | succ h ih =>
    intro g ho
    have hk := (zt_oc_S mp h g).mp ho
    have := zt_sum_bound (p := zt_p mp h g) (f := fun v => zt_sz mp h (16 * g + v)) (g := fun v => zt_nl mp h (16 * g + v)) 16 (fun v _ hp => ih _ hp) (fun v _ hp => (zt_sz_0 h _ (by rw [show zt_oc mp h (16 * g + v) = false from hp]; decide)).1)
    rw [zt_sz, zt_nl]
    have e : zb_cnt (zt_p mp h g) 16 = zt_kc mp h g := rfl
    rw [e] at this
    split <;> omega
theorem zt_sz_ext {mp mq : Nat → Option Int32} : ∀ h g, (∀ k, k / 16 ^ h = g → mp k = mq k) → zt_sz mp h g = zt_sz mq h g ∧ zt_nl mp h g = zt_nl mq h g := by
  intro h
  induction h with
  | zero => intro g H; rw [zt_sz, zt_sz, zt_nl, zt_nl, zt_oc_ext 0 g H]; exact ⟨rfl, rfl⟩
  | succ h ih =>
    intro g H
    rw [zt_sz, zt_sz, zt_nl, zt_nl, zt_kc_ext H, zt_sum_ext 16 (fun v hv => (ih _ (zt_sub H hv)).1), zt_sum_ext 16 (fun v hv => (ih _ (zt_sub H hv)).2)]
    exact ⟨rfl, rfl⟩
/-- one more leaf, and one more branch where the lowest occupied group had one kid -/
theorem zt_sz_up {mq : Nat → Option Int32} {k he : Nat} {v : Int32} (E : zt_he mq k he) (h1 : 1 ≤ he) : ∀ h, h ≤ 4 →
    zt_nl (zt_up mq k v) h (k / 16 ^ h) = zt_nl mq h (k / 16 ^ h) + 1 ∧
    zt_sz (zt_up mq k v) h (k / 16 ^ h) = zt_sz mq h (k / 16 ^ h) + (if he ≤ h ∧ zt_one mq k he = true then 2 else 1) := by
  intro h
  induction h with
  | zero =>
    intro _
    have o := E.2.1 0 (by omega)
    rw [zt_nl, zt_nl, zt_sz, zt_sz, if_pos zt_up_oc_on, if_neg o, if_neg (fun z => by omega)]
    exact ⟨rfl, rfl⟩
  | succ h ih =>
    intro hh
    obtain ⟨i1, i2⟩ := ih (by omega)
    have e1 : ∀ j, j < 16 → j ≠ k / 16 ^ h % 16 → ¬ 16 * (k / 16 ^ (h + 1)) + j = k / 16 ^ h := fun j _ hj z => hj (zt_w_on z)
    have s1 : zt_sum (fun v' => zt_nl (zt_up mq k v) h (16 * (k / 16 ^ (h + 1)) + v')) 16 = zt_sum (fun v' => zt_nl mq h (16 * (k / 16 ^ (h + 1)) + v')) 16 + 1 := by
      refine zt_sum_set (i := k / 16 ^ h % 16) 16 (by omega) ?_ ?_
      · intro j hj hn
        exact (zt_sz_ext h _ (zt_up_off (e1 j hj hn))).2.symm
      · show zt_nl (zt_up mq k v) h (16 * (k / 16 ^ (h + 1)) + k / 16 ^ h % 16) = zt_nl mq h (16 * (k / 16 ^ (h + 1)) + k / 16 ^ h % 16) + 1
        rw [zb_dm]; exact i1
    have s2 : zt_sum (fun v' => zt_sz (zt_up mq k v) h (16 * (k / 16 ^ (h + 1)) + v')) 16 = zt_sum (fun v' => zt_sz mq h (16 * (k / 16 ^ (h + 1)) + v')) 16 + (if he ≤ h ∧ zt_one mq k he = true then 2 else 1) := by
      refine zt_sum_set (i := k / 16 ^ h % 16) 16 (by omega) ?_ ?_
      · intro j hj hn
        exact (zt_sz_ext h _ (zt_up_off (e1 j hj hn))).1.symm
      · show zt_sz (zt_up mq k v) h (16 * (k / 16 ^ (h + 1)) + k / 16 ^ h % 16) = zt_sz mq h (16 * (k / 16 ^ (h + 1)) + k / 16 ^ h % 16) + _
        rw [zb_dm]; exact i2
    refine ⟨by rw [zt_nl, zt_nl, s1], ?_⟩
    rw [zt_sz, zt_sz, s2]
    rcases Nat.lt_trichotomy (h + 1) he with hlt | heq | hgt
    · have k1 := zt_he_one_lt (v := v) E (show 0 < h + 1 by omega) hlt
      rw [zt_one_S] at k1
      rw [k1, zt_kc0 (E.2.1 (h + 1) hlt), if_neg (by omega), if_neg (by omega), if_neg (by omega), if_neg (by omega)]
    · subst heq
      rw [zt_up_kc1 (E.2.1 h (by omega)), if_neg (fun z => by omega)]
      have hp := (zt_oc_S mq h _).mp (E.2.2 (h + 1) (Nat.le_refl _) hh)
      by_cases o : zt_one mq k (h + 1) = true
      · rw [if_pos (show h + 1 ≤ h + 1 ∧ _ from ⟨Nat.le_refl _, o⟩)]
        rw [zt_one_S] at o
        rw [o, if_pos (by omega), if_neg (by omega)]
      · rw [if_neg (show ¬ (h + 1 ≤ h + 1 ∧ _) from fun z => o z.2)]
        rw [zt_one_S] at o
        rw [if_pos (by omega), if_pos (by omega)]
    · rw [zt_up_kc (E.2.2 h (by omega) (by omega))]
      by_cases o : zt_one mq k he = true
      · rw [if_pos (show he ≤ h ∧ zt_one mq k he = true from ⟨by omega, o⟩), if_pos (show he ≤ h + 1 ∧ zt_one mq k he = true from ⟨by omega, o⟩)]; omega
      · rw [if_neg (show ¬ (he ≤ h ∧ zt_one mq k he = true) from fun z => o z.2), if_neg (show ¬ (he ≤ h + 1 ∧ zt_one mq k he = true) from fun z => o z.2)]; omega
/-- the free ids -/
def zt_F (mp : Nat → Option Int32) (nd : Nat → Nat → Nat) (free : Nat → Int32) (fi : Nat → Nat) (fc : Nat) : Prop :=
  (∀ i, i < fc → free i = nI (fi i) ∧ 1 ≤ fi i ∧ fi i < 32 ∧ ∀ h g, h ≤ 4 → zt_oc mp h g = true → nd h g ≠ fi i) ∧ ∀ i j, i < fc → j < fc → fi i = fi j → i = j
/-- an id with the tag and second of no node is not used -/
theorem zt_free {mp : Nat → Option Int32} {nd : Nat → Nat → Nat} {tag second third kids : Nat → Int32} (T : zt_T mp nd tag second third kids) {x : Nat}
    (H : ∀ c gc, zt_cn mp c gc → tag x = nI (if c = 0 then 1 else 6 - c) → second x = nI (gc * 16 ^ c) → False) {h g : Nat} (hh : h ≤ 4) (ho : zt_oc mp h g = true) : nd h g ≠ x := by
  intro e
  obtain ⟨c, gc, _, _, h3, _, h6⟩ := zt_cn_of 0 0 hh ho
  rw [h6 nd T.2.2.2] at e
  obtain ⟨a1, a2, _⟩ := zt_cn_f T h3
  rw [e] at a1 a2
  exact H c gc h3 a1 a2
theorem zt_nw_1 {s b : Int32} {mp : Nat → Option Int32} {h g : Nat} (e : zt_kc mp h g = 1) : zt_nw s b mp (h + 1) g = zt_nw s b mp h (zt_fk mp h g) := by rw [zt_nw, if_pos e]
/-- the words of a group with k alone -/
theorem zt_nw_lone {s b : Int32} {mq : Nat → Option Int32} {k he : Nat} {v : Int32} (E : zt_he mq k he) {h : Nat} (hh : h < he) : zt_nw s b (zt_up mq k v) h (k / 16 ^ h) = [1, nI k, v] := by
  have := (zt_nw_at (s := s) (b := b) (mp := zt_up mq k v) (k := k) (c := 0) (by rw [zt_up_k]; rfl) (Or.inl rfl) h (by
    intro k' h1 h2
    rw [Nat.zero_add] at h2
    by_cases e : k' = k
    · rw [e]
    · rw [zt_up_n e] at h1
      have := zt_oc_key h1 h
      rw [h2] at this
      exact absurd this (E.2.1 h hh))).1
  rw [Nat.zero_add] at this
  rw [this, zt_nw, zt_k0, zt_up_k]
  rfl
theorem zt_I_ins {s b : Int32} {mq : Nat → Option Int32} {nd : Nat → Nat → Nat} {hash hash' : Nat → Int32} {k he h2 lf nb : Nat} {v : Int32} (E : zt_he mq k he) (TH : zt_TH s b mq nd hash)
    (h1 : hash' lf = zh_H s b [1, nI k, v]) (hE : ∀ h g, h ≤ 4 → zt_oc mq h g = true → hash' (nd h g) = hash (nd h g)) : zt_I s b (zt_up mq k v) (zt_ni nd k he h2 lf nb) hash' k he := by
  intro h g hh ho hg
  by_cases eg : g = k / 16 ^ h
  · have hl := hg eg
    subst eg
    rw [zt_ni_lf hl, zt_nw_lone E hl, h1]
  · rw [zt_up_oc_off eg] at ho
    rw [zt_ni_off eg, hE h g hh ho, TH h g hh ho, zt_nw_ext h g ho (zt_up_off eg)]
theorem zt_I_del {s b : Int32} {mq : Nat → Option Int32} {nd : Nat → Nat → Nat} {hash : Nat → Int32} {k he h3 oth : Nat} {v : Int32} (E : zt_he mq k he) (h1 : 1 ≤ he) (TH : zt_TH s b (zt_up mq k v) nd hash)
    (hC : he ≤ 4 → (he < h3 ↔ zt_one mq k he = true)) (hO : ∀ h', he < h3 → he = h' + 1 → oth = nd h' (zt_fk mq h' (k / 16 ^ he))) :
    zt_I s b mq (zt_nr nd k he h3 oth) hash k (if he < h3 then he + 1 else he) := by
  intro h g hh ho hg
  by_cases eg : g = k / 16 ^ h
  · have hl := hg eg
    subst eg
    have hge : he ≤ h := by
      apply Classical.byContradiction
      intro z
      exact E.2.1 h (by omega) ho
    by_cases hc : he < h3
    · rw [if_pos hc] at hl
      have eh : h = he := by omega
      subst eh
      obtain ⟨h, rfl⟩ : ∃ m, h = m + 1 := ⟨h - 1, by omega⟩
      have ho1 := zt_one_S.mp ((hC hh).mp hc)
      obtain ⟨f1, f2⟩ := zt_fk_ok (mp := mq) (h := h) (g := k / 16 ^ (h + 1)) (by omega)
      have hf : ¬ zt_fk mq h (k / 16 ^ (h + 1)) = k / 16 ^ h := by
        intro e
        rw [e] at f2
        exact E.2.1 h (by omega) f2
      rw [zt_nr_o (Nat.le_refl _) hc, hO h hc rfl, TH h _ (by omega) (zt_up_oc.mpr (Or.inl f2)), zt_nw_1 ho1, zt_nw_ext h _ f2 (zt_up_off (v := v) hf)]
    · rw [if_neg hc] at hl
      omega
  · rw [zt_nr_off eg, TH h g hh (zt_up_oc.mpr (Or.inl ho)), zt_nw_ext h g ho (zt_up_off (v := v) eg)]
end
section
/-! X's trie: the state, find, newNode, attach, release -/
def zt_XS (s b : Int32) (mp : Nat → Option Int32) (nd : Nat → Nat → Nat) (fi : Nat → Nat) (fc n : Nat) (freeCount top pairs : Int32) (tag second third hash kids free : Nat → Int32) : Prop :=
  zt_T mp nd tag second third kids ∧ zt_TH s b mp nd hash ∧ top = nI (if zt_oc mp 4 0 = true then nd 4 0 else 0) ∧ tag 0 = 0 ∧ hash 0 = zh_H s b [0] ∧ zt_F mp nd free fi fc ∧ freeCount = nI fc ∧ fc + zt_sz mp 4 0 = 31 ∧ pairs = nI n ∧ n = zt_nl mp 4 0
theorem zt_isk {mp : Nat → Option Int32} {k : Nat} (hs : (mp k).isSome = true) : zt_oc mp 0 k = true := hs
theorem zt_nosig {mp : Nat → Option Int32} {nd : Nat → Nat → Nat} {tag second third kids : Nat → Int32} (T : zt_T mp nd tag second third kids) {k h g : Nat} (hk : k < 65536) (hs : ¬ (mp k).isSome = true) (hh : h ≤ 4) (ho : zt_oc mp h g = true) : ¬ (tag (nd h g) = 1 ∧ second (nd h g) = nI k) := by
  rintro ⟨t1, t2⟩
  refine zt_free T (x := nd h g) ?_ hh ho rfl
  intro c gc cn e1 e2
  rw [t1, show (1 : Int32) = nI 1 from rfl, nI_eq (by omega) (by have := cn.2.1; split <;> omega)] at e1
  have h0 : c = 0 := by have := cn.2.1; split at e1 <;> omega
  subst h0
  have hl := zt_oc_lt T.1 cn.1
  rw [t2, nI_eq (by omega) (by omega), Nat.pow_zero, Nat.mul_one] at e2
  subst e2
  exact hs cn.1
theorem zt_last {mp : Nat → Option Int32} {nd : Nat → Nat → Nat} {tag second third kids : Nat → Int32} (T : zt_T mp nd tag second third kids) (ht0 : tag 0 = 0) {k : Nat} (hk : k < 65536) :
    ∃ i, (zt_ids mp nd k)[(zt_ids mp nd k).length - 1]? = some i ∧ i < 32 ∧ ((mp k).isSome = true → i = nd 0 k) ∧ (¬ (mp k).isSome = true → ¬ (tag i = 1 ∧ second i = nI k)) := by
  by_cases o : zt_oc mp 4 0 = true
  · rw [zt_ids, if_pos o]
    have o4 : zt_oc mp 4 (k / 16 ^ 4) = true := by rw [zt_k4 hk]; exact o
    by_cases hs : (mp k).isSome = true
    · refine ⟨nd 0 k, ?_, (T.2.1 k hs).2.1, fun _ => rfl, fun z => absurd hs z⟩
      rw [zt_pl_p hs, zt_bu_split, if_neg (show ¬ zt_one mp k 0 = true by rw [zt_one]; decide), List.map_append, List.length_append, List.getElem?_append_right (by show _ ≤ _ + 1 - 1; omega)]
      show (List.map _ [0])[_ + 1 - 1 - _]? = _
      rw [Nat.add_sub_cancel, Nat.sub_self, List.map_cons, zt_k0]
      rfl
    · obtain ⟨he, E⟩ := zt_he_ex mp k
      have h1 : 1 ≤ he := by
        apply Classical.byContradiction
        intro z
        have := E.2.2 0 (by omega) (by omega)
        rw [zt_k0] at this
        exact hs this
      have h4 : he ≤ 4 := by
        apply Classical.byContradiction
        intro z
        exact E.2.1 4 (by omega) o4
      have ho := E.2.2 he (Nat.le_refl _) h4
      refine ⟨nd he (k / 16 ^ he), ?_, (zt_range T h4 ho).2, fun z => absurd z hs, fun _ => zt_nosig T hk hs h4 ho⟩
      have := zt_pl_q E h1 (4 - he) (by omega)
      rw [show he + (4 - he) = 4 by omega] at this
      rw [this, List.map_append, List.length_append, List.getElem?_append_right (by show _ ≤ _ + 1 - 1; omega)]
      show (List.map _ [he])[_ + 1 - 1 - _]? = _
      rw [Nat.add_sub_cancel, Nat.sub_self]
      rfl
  · rw [zt_ids, if_neg o]
    refine ⟨0, rfl, by omega, fun hs => ?_, fun _ z => ?_⟩
    · have := zt_oc_key hs 4
      rw [zt_k4 hk] at this
      exact absurd this o
    · rw [ht0] at z
      exact zb_0ne1 z.1
theorem zt_ids_len (mp : Nat → Option Int32) (nd : Nat → Nat → Nat) (k : Nat) : 1 ≤ (zt_ids mp nd k).length ∧ (zt_ids mp nd k).length ≤ 5 := by
  unfold zt_ids
  split
  · rw [List.length_map]
    have := zt_pl_len mp k 4
    omega
  · exact ⟨Nat.le_refl _, by show 1 ≤ 5; omega⟩
section
variable {f_capacity f_seed f_bits f_freeCount f_top f_pairs f_pathLen f_status f_claimRoot f_claimKey f_fedLen f_node f_need f_running f_expected f_level : Int32} {a_tag a_second a_third a_hash a_kids a_freeIds a_path a_fed a_starts : Nat → Int32}
theorem zx_find {post : Int32 → SX → Prop} {mp : Nat → Option Int32} {nd : Nat → Nat → Nat} {k : Nat} (T : zt_T mp nd a_tag a_second a_third a_kids) (hk : k < 65536) (htop : f_top = nI (if zt_oc mp 4 0 = true then nd 4 0 else 0)) (ht0 : a_tag 0 = 0)
    (H1 : (mp k).isSome = true → ∀ pa' : Nat → Int32, (∀ i a, (zt_ids mp nd k)[i]? = some a → pa' i = nI a) → post (nI (nd 0 k)) (f_capacity, f_seed, f_bits, f_freeCount, f_top, f_pairs, nI (zt_ids mp nd k).length, f_status, f_claimRoot, f_claimKey, f_fedLen, f_node, f_need, f_running, f_expected, f_level, a_tag, a_second, a_third, a_hash, a_kids, a_freeIds, pa', a_fed, a_starts))
    (H0 : ¬ (mp k).isSome = true → ∀ pa' : Nat → Int32, (∀ i a, (zt_ids mp nd k)[i]? = some a → pa' i = nI a) → post 0 (f_capacity, f_seed, f_bits, f_freeCount, f_top, f_pairs, nI (zt_ids mp nd k).length, f_status, f_claimRoot, f_claimKey, f_fedLen, f_node, f_need, f_running, f_expected, f_level, a_tag, a_second, a_third, a_hash, a_kids, a_freeIds, pa', a_fed, a_starts)) : wpX_find post (f_capacity, f_seed, f_bits, f_freeCount, f_top, f_pairs, f_pathLen, f_status, f_claimRoot, f_claimKey, f_fedLen, f_node, f_need, f_running, f_expected, f_level, a_tag, a_second, a_third, a_hash, a_kids, a_freeIds, a_path, a_fed, a_starts) (nI k) := by
  unfold wpX_find
  dsimp only
  refine zx_descend T hk htop ht0 ?_
  intro pa' hp
  obtain ⟨l1, l5⟩ := zt_ids_len mp nd k
  obtain ⟨i, i1, i2, i3, i4⟩ := zt_last T ht0 hk
  have el : nI (zt_ids mp nd k).length - 1 = nI ((zt_ids mp nd k).length - 1) := by rw [show (1 : Int32) = nI 1 from rfl, pk_sub l1]
  have hpi := hp _ _ i1
  have v : vp_in (nI i) 32 := vp_in_nI i2 (by omega)
  dsimp only
  rw [el, nI_clamp (by omega), hpi]
  refine ⟨vp_in_nI (by omega) (by omega), nm_e ?_⟩
  rw [nI_clamp (by omega)]
  refine ⟨v, ?_⟩
  by_cases hs : (mp k).isSome = true
  · have ei := i3 hs
    subst ei
    obtain ⟨_, _, a3, a4, _⟩ := T.2.1 k hs
    exact br_t a3 ⟨v, br_t a4 (H1 hs pa' hp)⟩
  · have hn := i4 hs
    refine br_c (fun h1 => ⟨v, br_c (fun h2 => absurd ⟨h1, h2⟩ hn) (fun _ => H0 hs pa' hp)⟩) (fun _ => H0 hs pa' hp)
theorem zx_newNode {post : Int32 → SX → Prop} {fc i : Nat} {p0 p1 p2 : Int32} (hf : f_freeCount = nI (fc + 1)) (hfc : fc < 32) (hid : a_freeIds fc = nI i) (hi : i < 32)
    (H : post (nI i) (f_capacity, f_seed, f_bits, nI fc, f_top, f_pairs, f_pathLen, f_status, f_claimRoot, f_claimKey, f_fedLen, f_node, f_need, f_running, f_expected, f_level, upd a_tag i p0, upd a_second i p1, upd a_third i p2, a_hash, a_kids, a_freeIds, a_path, a_fed, a_starts)) : wpX_newNode post (f_capacity, f_seed, f_bits, f_freeCount, f_top, f_pairs, f_pathLen, f_status, f_claimRoot, f_claimKey, f_fedLen, f_node, f_need, f_running, f_expected, f_level, a_tag, a_second, a_third, a_hash, a_kids, a_freeIds, a_path, a_fed, a_starts) p0 p1 p2 := by
  subst hf
  have v : vp_in (nI i) 32 := vp_in_nI hi (by omega)
  have e : nI (fc + 1) - 1 = nI fc := nI_pred fc
  refine nm_r e ⟨vp_in_nI hfc (by omega), nm_r (e' := nI i) (by rw [nI_clamp (by omega)]; exact hid) ?_⟩
  rw [nI_clamp (by omega)]
  exact ⟨v, nm_e ⟨v, nm_e ⟨v, nm_e H⟩⟩⟩
theorem zx_release {post : SX → Prop} {fc : Nat} {p0 : Int32} (hf : f_freeCount = nI fc) (hfc : fc < 32) (H : post (f_capacity, f_seed, f_bits, nI (fc + 1), f_top, f_pairs, f_pathLen, f_status, f_claimRoot, f_claimKey, f_fedLen, f_node, f_need, f_running, f_expected, f_level, a_tag, a_second, a_third, a_hash, a_kids, upd a_freeIds fc p0, a_path, a_fed, a_starts)) : wpX_release post (f_capacity, f_seed, f_bits, f_freeCount, f_top, f_pairs, f_pathLen, f_status, f_claimRoot, f_claimKey, f_fedLen, f_node, f_need, f_running, f_expected, f_level, a_tag, a_second, a_third, a_hash, a_kids, a_freeIds, a_path, a_fed, a_starts) p0 := by
  subst hf
  refine ⟨vp_in_nI hfc (by omega), nm_e (nm_r (nI_1 fc) ?_)⟩
  rw [nI_clamp (by omega)]
  exact H
theorem zx_attach {post : SX → Prop} {i n : Nat} {key kid : Int32} (hi : i < 32) (hn : n < 16) (hd : zb_D key (a_tag i - 2) = nI n)
    (H : post (f_capacity, f_seed, f_bits, f_freeCount, f_top, f_pairs, f_pathLen, f_status, f_claimRoot, f_claimKey, f_fedLen, f_node, f_need, f_running, f_expected, f_level, a_tag, a_second, upd a_third i (a_third i ||| ((1 : Int32) <<< (nI n &&& 31))), a_hash, upd a_kids (16 * i + n) kid, a_freeIds, a_path, a_fed, a_starts)) : wpX_attach post (f_capacity, f_seed, f_bits, f_freeCount, f_top, f_pairs, f_pathLen, f_status, f_claimRoot, f_claimKey, f_fedLen, f_node, f_need, f_running, f_expected, f_level, a_tag, a_second, a_third, a_hash, a_kids, a_freeIds, a_path, a_fed, a_starts) (nI i) key kid := by
  have e : (nI i).toNatClampNeg = i := nI_clamp (by omega)
  have v : vp_in (nI i) 32 := vp_in_nI hi (by omega)
  unfold wpX_attach
  dsimp only
  rw [e]
  refine ⟨v, zx_digit ?_⟩
  rw [hd, zb_ix, nI_clamp (by omega)]
  exact ⟨v, v, nm_e ⟨vp_in_nI (by omega) (by omega), nm_e H⟩⟩
end
theorem zb_fork_eq {q k h : Nat} (hq : q < 65536) (hk : k < 65536) (hh : h < 4) (h1 : q / 16 ^ (h + 1) = k / 16 ^ (h + 1)) (h2 : ¬ q / 16 ^ h = k / 16 ^ h) : zb_fork (nI q) (nI k) = 3 - h := by
  have d0 : zb_D (nI q) 0 = zb_D (nI k) 0 ↔ q / 4096 % 16 = k / 4096 % 16 := by
    have a := zb_D_nI (h := 3) hq (by omega)
    have b := zb_D_nI (h := 3) hk (by omega)
    rw [show (0 : Int32) = nI (3 - 3) from rfl, a, b, nI_eq (by omega) (by omega)]
  have d1 : zb_D (nI q) 1 = zb_D (nI k) 1 ↔ q / 256 % 16 = k / 256 % 16 := by
    have a := zb_D_nI (h := 2) hq (by omega)
    have b := zb_D_nI (h := 2) hk (by omega)
    rw [show (1 : Int32) = nI (3 - 2) from rfl, a, b, nI_eq (by omega) (by omega)]
  have d2 : zb_D (nI q) 2 = zb_D (nI k) 2 ↔ q / 16 % 16 = k / 16 % 16 := by
    have a := zb_D_nI (h := 1) hq (by omega)
    have b := zb_D_nI (h := 1) hk (by omega)
    rw [show (2 : Int32) = nI (3 - 1) from rfl, a, b, nI_eq (by omega) (by omega)]
  unfold zb_fork
  rcases (by omega : h = 0 ∨ h = 1 ∨ h = 2 ∨ h = 3) with rfl | rfl | rfl | rfl
  · rw [show 16 ^ (0 + 1) = 16 from rfl] at h1
    rw [if_pos (d0.mpr (by omega)), if_pos (d1.mpr (by omega)), if_pos (d2.mpr (by omega))]
  · rw [show 16 ^ (1 + 1) = 256 from rfl] at h1
    rw [show 16 ^ 1 = 16 from rfl] at h2
    rw [if_pos (d0.mpr (by omega)), if_pos (d1.mpr (by omega)), if_neg (fun z => by have := d2.mp z; omega)]
  · rw [show 16 ^ (2 + 1) = 4096 from rfl] at h1
    rw [show 16 ^ 2 = 256 from rfl] at h2
    rw [if_pos (d0.mpr (by omega)), if_neg (fun z => by have := d1.mp z; omega)]
  · rw [show 16 ^ 3 = 4096 from rfl] at h2
    rw [if_neg (fun z => by have := d0.mp z; omega)]
end
section
/-! a value changed; a key put in: pure rows -/
theorem zt_chg_oc {mp : Nat → Option Int32} {k : Nat} {v : Int32} (hs : (mp k).isSome = true) (h g : Nat) : zt_oc (zt_up mp k v) h g = zt_oc mp h g := by
  apply zt_beq
  rw [zt_up_oc]
  constructor
  · rintro (h1 | h1)
    · exact h1
    · rw [h1]; exact zt_oc_key hs h
  · exact Or.inl
theorem zt_chg_p {mp : Nat → Option Int32} {k : Nat} {v : Int32} (hs : (mp k).isSome = true) (h g : Nat) : zt_p (zt_up mp k v) h g = zt_p mp h g := by
  funext w; exact zt_chg_oc hs h _
theorem zt_chg_kc {mp : Nat → Option Int32} {k : Nat} {v : Int32} (hs : (mp k).isSome = true) (h g : Nat) : zt_kc (zt_up mp k v) h g = zt_kc mp h g := by unfold zt_kc; rw [zt_chg_p hs]
theorem zt_chg_fk {mp : Nat → Option Int32} {k : Nat} {v : Int32} (hs : (mp k).isSome = true) (h g : Nat) : zt_fk (zt_up mp k v) h g = zt_fk mp h g := by unfold zt_fk; rw [zt_chg_p hs]
theorem zt_chg_one {mp : Nat → Option Int32} {k : Nat} {v : Int32} (hs : (mp k).isSome = true) : ∀ h, zt_one (zt_up mp k v) k h = zt_one mp k h
  | 0 => rfl
  | h + 1 => by rw [zt_one, zt_one, zt_chg_kc hs]
theorem zt_chg_sz {mp : Nat → Option Int32} {k : Nat} {v : Int32} (hs : (mp k).isSome = true) : ∀ h g, zt_sz (zt_up mp k v) h g = zt_sz mp h g ∧ zt_nl (zt_up mp k v) h g = zt_nl mp h g := by
  intro h
  induction h with
  | zero => intro g; rw [zt_sz, zt_sz, zt_nl, zt_nl, zt_chg_oc hs]; exact ⟨rfl, rfl⟩
  | succ h ih =>
    intro g
    rw [zt_sz, zt_sz, zt_nl, zt_nl, zt_chg_kc hs, zt_sum_ext 16 (fun v' _ => (ih (16 * g + v')).1), zt_sum_ext 16 (fun v' _ => (ih (16 * g + v')).2)]
    exact ⟨rfl, rfl⟩
theorem zt_chg {mp : Nat → Option Int32} {nd : Nat → Nat → Nat} {tag second third kids : Nat → Int32} {k : Nat} {v : Int32} (T : zt_T mp nd tag second third kids) (hk : k < 65536) (hs : (mp k).isSome = true) : zt_T (zt_up mp k v) nd tag second (upd third (nd 0 k) v) kids := by
  have cn : zt_cn mp 0 k := ⟨hs, by omega, Or.inl rfl⟩
  refine ⟨?_, ?_, ?_, ?_⟩
  · intro j hj
    rw [zt_up_n (by omega)]
    exact T.1 j hj
  · intro g ho
    rw [zt_chg_oc hs] at ho
    obtain ⟨a1, a2, a3, a4, a5⟩ := T.2.1 g ho
    by_cases e : g = k
    · subst e
      rw [pk_us, zt_up_k]
      exact ⟨a1, a2, a3, a4, rfl⟩
    · rw [pk_un (fun z => e (zt_uniq T ⟨ho, by omega, Or.inl rfl⟩ cn z).2), zt_up_n e]
      exact ⟨a1, a2, a3, a4, a5⟩
  · intro h g hh hc
    rw [zt_chg_kc hs] at hc
    obtain ⟨a1, a2, a3, a4, a5, a6⟩ := T.2.2.1 h g hh hc
    have ho : zt_oc mp (h + 1) g = true := (zt_oc_S mp h g).mpr (by omega)
    rw [pk_un (fun z => by have := (zt_uniq T ⟨ho, by omega, Or.inr ⟨h, rfl, hc⟩⟩ cn z).1; omega), zt_chg_p hs]
    refine ⟨a1, a2, a3, a4, a5, ?_⟩
    intro w hw ho'
    rw [zt_chg_oc hs] at ho'
    exact a6 w hw ho'
  · intro h g hh hc
    rw [zt_chg_kc hs] at hc
    rw [zt_chg_fk hs]
    exact T.2.2.2 h g hh hc
theorem zt_I_chg {s b : Int32} {mp : Nat → Option Int32} {nd : Nat → Nat → Nat} {hash : Nat → Int32} {k : Nat} {v : Int32} (hs : (mp k).isSome = true) (TH : zt_TH s b mp nd hash) : zt_I s b (zt_up mp k v) nd hash k 0 := by
  intro h g hh ho hg
  have eg : ¬ g = k / 16 ^ h := fun e => by have := hg e; omega
  rw [zt_chg_oc hs] at ho
  rw [TH h g hh ho, zt_nw_ext h g ho (zt_up_off (v := v) eg)]
theorem zt_I_le {s b : Int32} {mp : Nat → Option Int32} {nd : Nat → Nat → Nat} {hash : Nat → Int32} {k c d : Nat} (h : zt_I s b mp nd hash k c) (hd : d ≤ c) : zt_I s b mp nd hash k d := fun h' g hh ho hg => h h' g hh ho (fun e => by have := hg e; omega)
theorem zb_mk_set {p q : Nat → Bool} {n : Nat} (hn : n < 16) (h : ∀ w, w < 16 → q w = (p w || decide (w = n))) : zb_mk p 16 ||| ((1 : Int32) <<< (nI n &&& 31)) = zb_mk q 16 := by
  apply zb_mk_eq
  · intro w hw
    rw [b_or, zb_mk_b hw, zb_bit1 (by omega) (by omega), h w hw]
  · intro w h1 h2
    rw [b_or, zb_mk_hi h1 h2, zb_bit1 (by omega) h2, decide_eq_false (by omega)]; rfl
theorem zb_mk_clr {p q : Nat → Bool} {n : Nat} (hn : n < 16) (h : ∀ w, w < 16 → q w = (p w && !decide (w = n))) : zb_mk p 16 &&& (((1 : Int32) <<< (nI n &&& 31)) ^^^ (-1)) = zb_mk q 16 := by
  apply zb_mk_eq
  · intro w hw
    rw [b_and, b_xor, zb_mk_b hw, zb_bit1 (by omega) (by omega), b_m1 w (by omega), h w hw, Bool.xor_true]
  · intro w h1 h2
    rw [b_and, zb_mk_hi h1 h2]; rfl
theorem zb_or_same {m : Int32} {n : Nat} (hn : n < 32) (h : bt m n = true) : m ||| ((1 : Int32) <<< (nI n &&& 31)) = m := by
  apply b_ext
  intro i hi
  rw [b_or, zb_bit1 hn hi]
  by_cases e : i = n
  · subst e; rw [h]; rfl
  · rw [decide_eq_false e, Bool.or_false]
theorem zb_muldiv {g c h : Nat} (hc : c ≤ h) : g * 16 ^ c / 16 ^ h = g / 16 ^ (h - c) := by
  rw [show 16 ^ h = 16 ^ (h - c) * 16 ^ c by rw [← Nat.pow_add, Nat.sub_add_cancel hc], Nat.mul_div_mul_right _ _ (zb_p16 c)]
theorem zt_F_ins {mq : Nat → Option Int32} {nd : Nat → Nat → Nat} {free : Nat → Int32} {fi : Nat → Nat} {fc0 fc k he h2 lf nb : Nat} {v : Int32} (F : zt_F mq nd free fi fc0) (hc : fc ≤ fc0) (E : zt_he mq k he)
    (h1 : ∀ i, i < fc → fi i ≠ lf) (h2' : he < h2 → ∀ i, i < fc → fi i ≠ nb) : zt_F (zt_up mq k v) (zt_ni nd k he h2 lf nb) free fi fc := by
  refine ⟨?_, fun i j a b => F.2 i j (by omega) (by omega)⟩
  intro i hi
  obtain ⟨a1, a2, a3, a4⟩ := F.1 i (by omega)
  refine ⟨a1, a2, a3, ?_⟩
  intro h g hh ho
  by_cases eg : g = k / 16 ^ h
  · subst eg
    by_cases hl : h < he
    · rw [zt_ni_lf hl]; exact (h1 i hi).symm
    · by_cases hl2 : h < h2
      · rw [zt_ni_nb (by omega) hl2]; exact (h2' (by omega) i hi).symm
      · rw [zt_ni_nd (by omega) (by omega)]
        exact a4 h _ hh (E.2.2 h (by omega) hh)
  · rw [zt_ni_off eg]
    rw [zt_up_oc_off eg] at ho
    exact a4 h g hh ho
/-- the key goes under a branch that is there -/
theorem zt_insA {mq : Nat → Option Int32} {nd : Nat → Nat → Nat} {tag second third kids : Nat → Int32} {k h lf : Nat} {v : Int32} (T : zt_T mq nd tag second third kids) (hk : k < 65536) (E : zt_he mq k (h + 1)) (h4 : h + 1 ≤ 4) (ho : zt_one mq k (h + 1) = false)
    (hlf : 1 ≤ lf ∧ lf < 32) (hf : ∀ a g, a ≤ 4 → zt_oc mq a g = true → nd a g ≠ lf) :
    zt_T (zt_up mq k v) (zt_ni nd k (h + 1) (h + 1) lf 0) (upd tag lf 1) (upd second lf (nI k))
      (upd (upd third lf v) (nd (h + 1) (k / 16 ^ (h + 1))) (upd third lf v (nd (h + 1) (k / 16 ^ (h + 1))) ||| ((1 : Int32) <<< (nI (k / 16 ^ h % 16) &&& 31))))
      (upd kids (16 * nd (h + 1) (k / 16 ^ (h + 1)) + k / 16 ^ h % 16) (nI lf)) := by
  have hoc := E.2.2 (h + 1) (Nat.le_refl _) h4
  have hkc : 2 ≤ zt_kc mq h (k / 16 ^ (h + 1)) := by
    have := (zt_oc_S mq h _).mp hoc
    have : ¬ zt_kc mq h (k / 16 ^ (h + 1)) = 1 := fun z => by rw [zt_one_S.mpr z] at ho; cases ho
    omega
  have cn : zt_cn mq (h + 1) (k / 16 ^ (h + 1)) := ⟨hoc, h4, Or.inr ⟨h, rfl, hkc⟩⟩
  obtain ⟨a1, a2, a3, a4, a5, a6⟩ := T.2.2.1 h _ (by omega) hkc
  have nb := hf (h + 1) _ h4 hoc
  refine zt_ins T hk E (by omega) (Nat.le_refl _) (fun x a b => by omega) (fun z => by omega) ⟨hlf.1, hlf.2, pk_us, pk_us, ?_⟩ ?_ ?_ ?_ (fun c z => by omega)
  · rw [pk_un nb.symm, pk_us]
  · intro c gc cc hn
    have n1 := hf c gc cc.2.1 cc.1
    have n2 : nd c gc ≠ nd (h + 1) (k / 16 ^ (h + 1)) := fun z => hn (zt_uniq T cc cn z)
    rw [pk_un n1, pk_un n1, pk_un n2, pk_un n1]
    exact ⟨rfl, rfl, rfl⟩
  · intro c gc w cc hn hw _
    have n2 : nd c gc ≠ nd (h + 1) (k / 16 ^ (h + 1)) := fun z => hn (zt_uniq T cc cn z)
    rw [pk_un (by omega)]
  · intro h' e _
    have : h' = h := by omega
    subst this
    rw [zt_ni_nd (Nat.le_refl _) (Nat.le_refl _), pk_un nb, pk_un nb, pk_us, pk_un nb, a3, a4, a5]
    refine ⟨a1, a2, rfl, rfl, ?_, ?_⟩
    · refine zb_mk_set (by omega) ?_
      intro w hw
      apply zt_beq
      show zt_oc (zt_up mq k v) h' (16 * (k / 16 ^ (h' + 1)) + w) = true ↔ _
      rw [zt_up_oc, Bool.or_eq_true, decide_eq_true_iff]
      refine or_congr Iff.rfl ⟨zt_w_on, fun e => by rw [e, zb_dm]⟩
    · intro w hw ho'
      by_cases ew : w = k / 16 ^ h' % 16
      · subst ew
        rw [pk_us, zb_dm, zt_ni_lf (by omega)]
      · have eo : ¬ 16 * (k / 16 ^ (h' + 1)) + w = k / 16 ^ h' := fun z => ew (zt_w_on z)
        rw [zt_up_oc_off eo] at ho'
        rw [pk_un (by omega), zt_ni_off eo, a6 w hw ho']
/-- the key gets a new branch, with what was there -/
theorem zt_insB {mq : Nat → Option Int32} {nd : Nat → Nat → Nat} {tag second third kids tag' second' third' kids' : Nat → Int32} {k h h2 lf nb : Nat} {v : Int32} (T : zt_T mq nd tag second third kids) (hk : k < 65536) (E : zt_he mq k (h + 1)) (h4 : h + 1 ≤ 4) (ho : zt_one mq k (h + 1) = true)
    (h2a : h + 1 < h2) (h2c : ∀ x, h + 1 < x → x < h2 → zt_one mq k x = true) (h2d : h2 ≤ 4 → zt_one mq k h2 = false)
    (hlf : 1 ≤ lf ∧ lf < 32) (hnb : 1 ≤ nb ∧ nb < 32) (hf : ∀ a g, a ≤ 4 → zt_oc mq a g = true → nd a g ≠ lf ∧ nd a g ≠ nb)
    (t1 : tag' lf = 1) (t2 : second' lf = nI k) (t3 : third' lf = v) (u1 : tag' nb = nI (5 - h)) (u2 : second' nb = nI (k / 16 ^ (h + 1) * 16 ^ (h + 1)))
    (u3 : third' nb = (0 ||| ((1 : Int32) <<< (nI (k / 16 ^ h % 16) &&& 31))) ||| ((1 : Int32) <<< (nI (zb_fst (zt_p mq h (k / 16 ^ (h + 1))) 16) &&& 31)))
    (w1 : ∀ i, i ≠ lf → i ≠ nb → tag' i = tag i ∧ second' i = second i ∧ third' i = third i)
    (k1 : kids' (16 * nb + k / 16 ^ h % 16) = nI lf) (k2 : kids' (16 * nb + zb_fst (zt_p mq h (k / 16 ^ (h + 1))) 16) = nI (nd (h + 1) (k / 16 ^ (h + 1))))
    (k3 : ∀ i w, i ≠ nb → w < 16 → ¬ (h2 ≤ 4 ∧ i = nd h2 (k / 16 ^ h2) ∧ w = k / 16 ^ (h2 - 1) % 16) → kids' (16 * i + w) = kids (16 * i + w))
    (k4 : h2 ≤ 4 → kids' (16 * nd h2 (k / 16 ^ h2) + k / 16 ^ (h2 - 1) % 16) = nI nb) :
    zt_T (zt_up mq k v) (zt_ni nd k (h + 1) h2 lf nb) tag' second' third' kids' := by
  have hoc := E.2.2 (h + 1) (Nat.le_refl _) h4
  rw [zt_one_S] at ho
  obtain ⟨f1, f2⟩ := zb_fst_ok (p := zt_p mq h (k / 16 ^ (h + 1))) 16 (by show 0 < zt_kc mq h _; omega)
  have f3 : zt_oc mq h (zt_fk mq h (k / 16 ^ (h + 1))) = true := f2
  refine zt_ins T hk E (by omega) (by omega) h2c (fun _ => h2d) ⟨hlf.1, hlf.2, t1, t2, t3⟩ ?_ ?_ ?_ ?_
  · intro c gc cc hn
    have n1 := hf c gc cc.2.1 cc.1
    exact w1 _ n1.1 n1.2
  · intro c gc w cc hn hw hx
    have n1 := hf c gc cc.2.1 cc.1
    refine k3 _ w n1.2 hw ?_
    rintro ⟨z1, z2, z3⟩
    have oc2 := E.2.2 h2 (by omega) z1
    have cn2 : zt_cn mq h2 (k / 16 ^ h2) := zt_cn_way z1 oc2 (by rw [h2d z1]; decide)
    obtain ⟨e1, e2⟩ := zt_uniq T cc cn2 z2
    refine hx ⟨e1, ?_⟩
    rw [e2, z3]
    have := zb_dm k (h2 - 1)
    rw [show h2 - 1 + 1 = h2 by omega] at this
    exact this
  · intro h' e _
    have : h' = h := by omega
    subst this
    rw [zt_ni_nb (Nat.le_refl _) h2a, u1, u2, u3]
    refine ⟨hnb.1, hnb.2, rfl, rfl, ?_, ?_⟩
    · have z0 : (0 : Int32) = zb_mk (fun _ => false) 16 := by decide
      rw [z0, zb_mk_set (q := fun w => decide (w = k / 16 ^ h' % 16)) (by omega) (fun w _ => by rw [Bool.false_or])]
      refine zb_mk_set f1 ?_
      intro w hw
      apply zt_beq
      show zt_oc (zt_up mq k v) h' (16 * (k / 16 ^ (h' + 1)) + w) = true ↔ _
      rw [zt_up_oc, Bool.or_eq_true, decide_eq_true_iff, decide_eq_true_iff]
      constructor
      · rintro (z | z)
        · exact Or.inr (zb_cnt_1 16 ho w hw z)
        · exact Or.inl (zt_w_on z)
      · rintro (z | z)
        · exact Or.inr (by rw [z, zb_dm])
        · exact Or.inl (by rw [z]; exact f2)
    · intro w hw ho'
      by_cases ew : w = k / 16 ^ h' % 16
      · subst ew
        rw [k1, zb_dm, zt_ni_lf (by omega)]
      · have eo : ¬ 16 * (k / 16 ^ (h' + 1)) + w = k / 16 ^ h' := fun z => ew (zt_w_on z)
        rw [zt_up_oc_off eo] at ho'
        have e3 := zb_cnt_1 16 ho w hw ho'
        rw [zt_ni_off eo, e3, k2, T.2.2.2 h' _ (by omega) ho]
        rfl
  · intro c' _ e2 z
    have := k4 z
    rw [e2, Nat.add_sub_cancel] at this
    rw [e2]
    exact this
end
section
/-! X's insert -/
theorem zt_bu_ge {mp : Nat → Option Int32} {k b : Nat} : ∀ e a, a ∈ zt_bu mp k b e → b ≤ a := by
  intro e
  induction e with
  | zero => intro a h; cases h
  | succ e ih =>
    intro a h
    rw [zt_bu] at h
    split at h
    · exact ih a h
    · rw [List.mem_cons] at h
      rcases h with rfl | h
      · omega
      · exact ih a h
theorem zt_mem {α : Type} {l : List α} {i : Nat} {a : α} (h : l[i]? = some a) : a ∈ l := List.mem_of_getElem? h
theorem zt_bu_up {mq : Nat → Option Int32} {k he : Nat} {v : Int32} (E : zt_he mq k he) (h1 : 1 ≤ he) (h4 : he ≤ 4) : zt_bu (zt_up mq k v) k he (5 - he) = zt_bu mq k (he + 1) (4 - he) ++ [he] := by
  rw [show 5 - he = (4 - he) + 1 by omega, zt_bu_split, zt_he_one_eq E h4, zt_bu_ext (mq := mq) (4 - he) (fun h a b => zt_he_one_gt E (by omega) (by omega))]
  rfl
theorem zt_pl4 {mq : Nat → Option Int32} {k he : Nat} (E : zt_he mq k he) (h1 : 1 ≤ he) (h4 : he ≤ 4) : zt_pl mq k 4 = zt_bu mq k (he + 1) (4 - he) ++ [he] := by
  have := zt_pl_q E h1 (4 - he) (by omega)
  rw [show he + (4 - he) = 4 by omega] at this
  exact this
theorem zt_ids_q {mq : Nat → Option Int32} {nd : Nat → Nat → Nat} {k he : Nat} (E : zt_he mq k he) (h1 : 1 ≤ he) (h4 : he ≤ 4) (hk : k < 65536) : zt_ids mq nd k = (zt_bu mq k (he + 1) (4 - he) ++ [he]).map (fun a => nd a (k / 16 ^ a)) := by
  have o := E.2.2 4 h4 (Nat.le_refl _)
  rw [zt_k4 hk] at o
  rw [zt_ids, if_pos o, zt_pl4 E h1 h4]
theorem zt_map_get {α β : Type} {f : α → β} {l : List α} {i : Nat} {a : α} (h : l[i]? = some a) : (l.map f)[i]? = some (f a) := by
  rw [List.getElem?_map, h]; rfl
theorem zt_XS_ins {s b : Int32} {mq : Nat → Option Int32} {nd' : Nat → Nat → Nat} {fi : Nat → Nat} {fc0 fc n k he : Nat} {v fC top : Int32} {tag second third hash kids free : Nat → Int32} (hsz : fc0 + zt_sz mq 4 0 = 31) (hn : n = zt_nl mq 4 0)
    (hk : k < 65536) (E : zt_he mq k he) (h1 : 1 ≤ he) (T : zt_T (zt_up mq k v) nd' tag second third kids) (TH : zt_TH s b (zt_up mq k v) nd' hash) (htop : top = nI (nd' 4 0)) (ht0 : tag 0 = 0) (hh0 : hash 0 = zh_H s b [0])
    (F : zt_F (zt_up mq k v) nd' free fi fc) (hfc : fC = nI fc) (hcnt : fc + (if he ≤ 4 ∧ zt_one mq k he = true then 2 else 1) = fc0) :
    zt_XS s b (zt_up mq k v) nd' fi fc (n + 1) fC top (nI (n + 1)) tag second third hash kids free := by
  obtain ⟨s1, s2⟩ := zt_sz_up (v := v) E h1 4 (by omega)
  rw [zt_k4 hk] at s1 s2
  have o : zt_oc (zt_up mq k v) 4 0 = true := by
    have := zt_up_oc_on (mq := mq) (k := k) (v := v) (h := 4)
    rw [zt_k4 hk] at this
    exact this
  refine ⟨T, TH, by rw [if_pos o]; exact htop, ht0, hh0, F, hfc, by rw [s2]; omega, rfl, by rw [s1, hn]⟩
section
variable {f_capacity f_seed f_bits f_freeCount f_top f_pairs f_pathLen f_status f_claimRoot f_claimKey f_fedLen f_node f_need f_running f_expected f_level : Int32} {a_tag a_second a_third a_hash a_kids a_freeIds a_path a_fed a_starts : Nat → Int32}
theorem zx_ins96 {post : SX → Prop} {mp : Nat → Option Int32} {nd : Nat → Nat → Nat} {n k b : Nat} (T : zt_T mp nd a_tag a_second a_third a_kids) (hb : b ≤ 5) (hob : ∀ h, b ≤ h → h ≤ 4 → zt_oc mp h (k / 16 ^ h) = true)
    (hl : f_pathLen = nI (zt_bu mp k b (5 - b)).length) (hp : ∀ i a, (zt_bu mp k b (5 - b))[i]? = some a → a_path i = nI (nd a (k / 16 ^ a))) (I : zt_I f_seed f_bits mp nd a_hash k b) (hpr : f_pairs = nI n)
    (H : ∀ hash', zt_TH f_seed f_bits mp nd hash' → hash' 0 = a_hash 0 → post (f_capacity, f_seed, f_bits, f_freeCount, f_top, nI (n + 1), f_pathLen, f_status, f_claimRoot, f_claimKey, f_fedLen, f_node, f_need, f_running, f_expected, f_level, a_tag, a_second, a_third, hash', a_kids, a_freeIds, a_path, a_fed, a_starts)) : wX_insert_96 post f_capacity f_seed f_bits f_freeCount f_top f_pairs f_pathLen f_status f_claimRoot f_claimKey f_fedLen f_node f_need f_running f_expected f_level a_tag a_second a_third a_hash a_kids a_freeIds a_path a_fed a_starts := by
  subst hpr
  refine nm_r (nI_1 n) ?_
  exact zx_rehashPath T hb hob hl hp I H
/-- the end of an insertion that hangs sub at the end of the path -/
theorem zx_ins68_0 {post : SX → Prop} {x1 z0 : Int32} (hl : f_pathLen = nI 1) (H : wX_insert_96 post f_capacity f_seed f_bits f_freeCount z0 f_pairs f_pathLen f_status f_claimRoot f_claimKey f_fedLen f_node f_need f_running f_expected f_level a_tag a_second a_third a_hash a_kids a_freeIds (upd a_path 0 z0) a_fed a_starts) : wX_insert_68 post x1 z0 f_capacity f_seed f_bits f_freeCount f_top f_pairs f_pathLen f_status f_claimRoot f_claimKey f_fedLen f_node f_need f_running f_expected f_level a_tag a_second a_third a_hash a_kids a_freeIds a_path a_fed a_starts := by
  subst hl
  refine br_t (by decide) ⟨vp_in_iff.mpr (by decide), nm_e ?_⟩
  exact H
theorem zx_ins68_1 {post : SX → Prop} {x1 z0 : Int32} {d i n : Nat} (hl : f_pathLen = nI (d + 2)) (hd : d < 4) (hp : a_path d = nI i) (hi : i < 32) (hn : n < 16) (hx : zb_D x1 (a_tag i - 2) = nI n)
    (H : wX_insert_96 post f_capacity f_seed f_bits f_freeCount f_top f_pairs f_pathLen f_status f_claimRoot f_claimKey f_fedLen f_node f_need f_running f_expected f_level a_tag a_second (upd a_third i (a_third i ||| ((1 : Int32) <<< (nI n &&& 31)))) a_hash (upd a_kids (16 * i + n) z0) a_freeIds (upd a_path (d + 1) z0) a_fed a_starts) : wX_insert_68 post x1 z0 f_capacity f_seed f_bits f_freeCount f_top f_pairs f_pathLen f_status f_claimRoot f_claimKey f_fedLen f_node f_need f_running f_expected f_level a_tag a_second a_third a_hash a_kids a_freeIds a_path a_fed a_starts := by
  subst hl
  have e1 : nI (d + 2) - 1 = nI (d + 1) := nI_pred (d + 1)
  have e2 : nI (d + 1) - 1 = nI d := nI_pred d
  unfold wX_insert_68
  rw [e1]
  refine br_f (nI_ne0 (by omega) (by omega)) ?_
  rw [e2, nI_clamp (by omega), hp]
  refine ⟨vp_in_nI (by omega) (by omega), zx_attach hi hn hx ?_⟩
  dsimp only
  rw [e1, nI_clamp (by omega)]
  exact ⟨vp_in_nI (by omega) (by omega), nm_e H⟩
theorem zx_join {post : Int32 → SX → Prop} {old lf nb fc k q n m h : Nat} (hold : old < 32) (hlf : lf < 32) (hs1 : a_second lf = nI k) (hs2 : a_second old = nI q) (hk : k < 65536) (hq : q < 65536) (hh : h < 4) (hq1 : q / 16 ^ (h + 1) = k / 16 ^ (h + 1)) (hq2 : ¬ q / 16 ^ h = k / 16 ^ h)
    (hfc : f_freeCount = nI (fc + 1)) (hf32 : fc < 32) (hfree : a_freeIds fc = nI nb) (hnb : nb < 32) (hne : nb ≠ old) (hn : n = k / 16 ^ h % 16) (hm : m = q / 16 ^ h % 16)
    (H : post (nI nb) (f_capacity, f_seed, f_bits, nI fc, f_top, f_pairs, f_pathLen, f_status, f_claimRoot, f_claimKey, f_fedLen, f_node, f_need, f_running, f_expected, f_level, upd a_tag nb (nI (5 - h)), upd a_second nb (nI (k / 16 ^ (h + 1) * 16 ^ (h + 1))), upd (upd (upd a_third nb 0) nb (0 ||| ((1 : Int32) <<< (nI n &&& 31)))) nb ((0 ||| ((1 : Int32) <<< (nI n &&& 31))) ||| ((1 : Int32) <<< (nI m &&& 31))), a_hash, upd (upd a_kids (16 * nb + n) (nI lf)) (16 * nb + m) (nI old), a_freeIds, a_path, a_fed, a_starts)) :
    wpX_join post (f_capacity, f_seed, f_bits, f_freeCount, f_top, f_pairs, f_pathLen, f_status, f_claimRoot, f_claimKey, f_fedLen, f_node, f_need, f_running, f_expected, f_level, a_tag, a_second, a_third, a_hash, a_kids, a_freeIds, a_path, a_fed, a_starts) (nI old) (nI lf) := by
  have eo : (nI old).toNatClampNeg = old := nI_clamp (by omega)
  have el : (nI lf).toNatClampNeg = lf := nI_clamp (by omega)
  have dn : zb_D (nI k) (nI (5 - h) - 2) = nI n := by rw [(zb_tag h hh).2.2.2.1, zb_D_nI hk hh, hn]
  have dm : zb_D (nI q) (nI (5 - h) - 2) = nI m := by rw [(zb_tag h hh).2.2.2.1, zb_D_nI hq hh, hm]
  unfold wpX_join
  refine ⟨vp_in_nI hlf (by omega), nm_r (e' := nI k) (by rw [el]; exact hs1) ⟨vp_in_nI hold (by omega), ?_⟩⟩
  rw [eo, hs2]
  refine zx_fork ?_
  rw [zb_fork_eq hq hk hh hq1 hq2]
  refine zx_prefix ?_
  rw [(zb_tag h hh).2.2.2.2, show 3 - h = 4 - (h + 1) by omega, zb_P_nI hk (by omega)]
  refine zx_newNode hfc hf32 hfree hnb ?_
  refine zx_attach (n := n) hnb (by omega) (by rw [pk_us]; exact dn) ?_
  refine ⟨vp_in_nI hold (by omega), ?_⟩
  dsimp only
  rw [pk_un hne.symm, hs2, pk_us]
  refine zx_attach (n := m) hnb (by omega) (by rw [pk_us]; exact dm) ?_
  dsimp only
  rw [pk_us]
  exact H
end
end
section
/-! X's insert and put -/
section
variable {f_capacity f_seed f_bits f_freeCount f_top f_pairs f_pathLen f_status f_claimRoot f_claimKey f_fedLen f_node f_need f_running f_expected f_level : Int32} {a_tag a_second a_third a_hash a_kids a_freeIds a_path a_fed a_starts : Nat → Int32}
theorem zx_insert {post : SX → Prop} {mq : Nat → Option Int32} {nd : Nat → Nat → Nat} {fi : Nat → Nat} {fc n k : Nat} {v : Int32}
    (S : zt_XS f_seed f_bits mq nd fi (fc + 2) n f_freeCount f_top f_pairs a_tag a_second a_third a_hash a_kids a_freeIds) (hk : k < 65536) (hs : ¬ (mq k).isSome = true)
    (hpl : f_pathLen = nI (zt_ids mq nd k).length) (hp : ∀ i a, (zt_ids mq nd k)[i]? = some a → a_path i = nI a)
    (H : ∀ nd' fc' fC top pairs tag second third hash kids path, zt_XS f_seed f_bits (zt_up mq k v) nd' fi fc' (n + 1) fC top pairs tag second third hash kids a_freeIds →
      post (f_capacity, f_seed, f_bits, fC, top, pairs, f_pathLen, f_status, f_claimRoot, f_claimKey, f_fedLen, f_node, f_need, f_running, f_expected, f_level, tag, second, third, hash, kids, a_freeIds, path, a_fed, a_starts)) : wpX_insert post (f_capacity, f_seed, f_bits, f_freeCount, f_top, f_pairs, f_pathLen, f_status, f_claimRoot, f_claimKey, f_fedLen, f_node, f_need, f_running, f_expected, f_level, a_tag, a_second, a_third, a_hash, a_kids, a_freeIds, a_path, a_fed, a_starts) (nI k) v := by
  obtain ⟨T, TH, htop, ht0, hh0, F, hfc, hsz, hpr, hn⟩ := S
  obtain ⟨f1, f2, f3, f4⟩ := F.1 (fc + 1) (by omega)
  obtain ⟨g1, g2, g3, g4⟩ := F.1 fc (by omega)
  have hne : fi (fc + 1) ≠ fi fc := fun z => by have := F.2 (fc + 1) fc (by omega) (by omega) z; omega
  have hdis : ∀ i, i < fc + 1 → fi i ≠ fi (fc + 1) := fun i hi z => by have := F.2 i (fc + 1) (by omega) (by omega) z; omega
  have hdis2 : ∀ i, i < fc → fi i ≠ fi fc := fun i hi z => by have := F.2 i fc (by omega) (by omega) z; omega
  obtain ⟨he, E⟩ := zt_he_ex mq k
  have h1 : 1 ≤ he := by
    apply Classical.byContradiction
    intro z
    have := E.2.2 0 (by omega) (by omega)
    rw [zt_k0] at this
    exact hs this
  generalize elf : fi (fc + 1) = lf at f1 f2 f3 f4 hne hdis
  generalize enb : fi fc = nb at g1 g2 g3 g4 hne hdis2
  have hz : ∀ (h g : Nat), h ≤ 4 → zt_oc mq h g = true → upd a_hash lf (zh_H f_seed f_bits [1, nI k, v]) (nd h g) = a_hash (nd h g) := fun h g a b => pk_un (f4 h g a b)
  have hz0 : upd a_hash lf (zh_H f_seed f_bits [1, nI k, v]) 0 = zh_H f_seed f_bits [0] := (pk_un (by omega)).trans hh0
  have hon : ∀ b h, b ≤ h → h ≤ 4 → zt_oc (zt_up mq k v) h (k / 16 ^ h) = true := fun _ _ _ _ => zt_up_oc_on
  unfold wpX_insert
  refine zx_newNode (fc := fc + 1) (i := lf) hfc (by omega) f1 f3 ?_
  refine zx_rehash (i := lf) (ws := [1, nI k, v]) ⟨f3, Or.inr (Or.inl ⟨pk_us, by rw [pk_us, pk_us]⟩)⟩ (by rw [pk_us]; decide) ?_
  by_cases h5 : he = 5
  · have o : ¬ zt_oc mq 4 0 = true := by
      have := E.2.1 4 (by omega)
      rw [zt_k4 hk] at this
      exact this
    rw [zt_ids, if_neg o] at hpl hp
    have hp0 := hp 0 0 rfl
    have hpl : f_pathLen = nI 1 := hpl
    have e0 : f_pathLen - 1 = nI 0 := by rw [hpl]; rfl
    dsimp only
    rw [e0, nI_clamp (by omega), hp0]
    refine ⟨vp_in_nI (by omega) (by omega), nm_e ?_⟩
    refine zx_covers (i := 0) (by omega) (fun z => absurd (by rw [pk_un (by omega), ht0]; decide) z) (fun _ => br_t rfl ⟨vp_in_nI (by omega) (by omega), br_t ?_ ?_⟩)
    · rw [nI_clamp (by omega), pk_un (by omega), ht0]
    · subst h5
      have T' : zt_T (zt_up mq k v) (zt_ni nd k 5 5 lf 0) (upd a_tag lf 1) (upd a_second lf (nI k)) (upd a_third lf v) a_kids := by
        have hno : ∀ c gc, ¬ zt_cn mq c gc := by
          intro c gc cn
          obtain ⟨x, x1, _⟩ := (zt_oc_iff mq c gc).mp cn.1
          have := zt_oc_key x1 4
          rw [zt_k4 (zt_key_lt T.1 x1)] at this
          exact o this
        exact zt_ins T hk E h1 (Nat.le_refl _) (fun h a b => by omega) (fun z => by omega) ⟨f2, f3, pk_us, pk_us, pk_us⟩ (fun c gc cn => absurd cn (hno c gc)) (fun c gc w cn => absurd cn (hno c gc)) (fun h' a b => by omega) (fun c' z => by omega)
      refine zx_ins68_0 hpl ?_
      have hbu : zt_bu (zt_up mq k v) k 0 (5 - 0) = [0] := by
        have o1 : ∀ h, 0 < h → h < 5 → zt_one (zt_up mq k v) k h = true := fun h a b => zt_he_one_lt E a b
        rw [zt_bu, if_pos (o1 _ (by omega) (by omega)), zt_bu, if_pos (o1 _ (by omega) (by omega)), zt_bu, if_pos (o1 _ (by omega) (by omega)), zt_bu, if_pos (o1 _ (by omega) (by omega)), zt_bu, if_neg (show ¬ zt_one (zt_up mq k v) k (0 + 0) = true by rw [zt_one]; decide)]
        rfl
      refine zx_ins96 (mp := zt_up mq k v) (nd := zt_ni nd k 5 5 lf 0) (n := n) (k := k) (b := 0) T' (by omega) (hon 0) (by rw [hbu]; exact hpl) ?_ (zt_I_le (zt_I_ins E TH pk_us hz) (by omega)) hpr ?_
      · intro i a hi
        rw [hbu] at hi
        have := zy_T_lt' hi
        have : i = 0 := by rw [List.length_singleton] at this; omega
        subst this
        cases hi
        rw [pk_us, zt_ni_lf (by omega)]
      · intro hash' TH' hh'
        refine H (zt_ni nd k 5 5 lf 0) (fc + 1) _ _ _ _ _ _ _ _ _ (zt_XS_ins hsz hn hk E h1 T' TH' ?_ ((pk_un (by omega)).trans ht0) (hh'.trans hz0) (zt_F_ins F (by omega) E hdis (fun z => by omega)) rfl ?_)
        · rw [← zt_k4 hk, zt_ni_lf (by omega)]
        · rw [if_neg (fun z => by omega)]
  · have h4 : he ≤ 4 := by have := E.1; omega
    obtain ⟨h, rfl⟩ : ∃ m, he = m + 1 := ⟨he - 1, by omega⟩
    have hoc := E.2.2 (h + 1) (Nat.le_refl _) h4
    have hids := zt_ids_q (nd := nd) E h1 h4 hk
    have hbu := zt_bu_up (v := v) E h1 h4
    have hr := zt_range T h4 hoc
    have hlast : a_path (zt_bu mq k (h + 1 + 1) (4 - (h + 1))).length = nI (nd (h + 1) (k / 16 ^ (h + 1))) := by
      refine hp _ _ ?_
      rw [hids]
      refine zt_map_get (f := fun a => nd a (k / 16 ^ a)) ?_
      rw [List.getElem?_append_right (Nat.le_refl _), Nat.sub_self]
      rfl
    have hlen := zt_bu_len mq k (h + 1 + 1) (4 - (h + 1))
    have hpl' : f_pathLen = nI ((zt_bu mq k (h + 1 + 1) (4 - (h + 1))).length + 1) := by
      rw [hpl, hids, List.length_map, List.length_append]; rfl
    have e0 : f_pathLen - 1 = nI (zt_bu mq k (h + 1 + 1) (4 - (h + 1))).length := by rw [hpl']; exact nI_pred _
    have nlf := f4 (h + 1) _ h4 hoc
    have nnb := g4 (h + 1) _ h4 hoc
    have hpath : ∀ i a, (zt_bu mq k (h + 1 + 1) (4 - (h + 1)) ++ [h + 1])[i]? = some a → a_path i = nI (nd a (k / 16 ^ a)) := by
      intro i a hi
      refine hp i _ ?_
      rw [hids]
      exact zt_map_get (f := fun a => nd a (k / 16 ^ a)) hi
    dsimp only
    rw [e0, nI_clamp (by omega), hlast]
    refine ⟨vp_in_nI (by omega) (by omega), nm_e ?_⟩
    by_cases o1 : zt_one mq k (h + 1) = true
    · have ho1 := zt_one_S.mp o1
      have hstop : ∀ z1 : ¬ a_tag (nd (h + 1) (k / 16 ^ (h + 1))) < 2, ¬ a_second (nd (h + 1) (k / 16 ^ (h + 1))) = zb_P (nI k) (a_tag (nd (h + 1) (k / 16 ^ (h + 1))) - 2) := fun z1 z2 => zt_stop T hk h4 ho1 hoc (E.2.1 h (by omega)) z1 z2
      obtain ⟨c, gc, c1, c2, c3, _, c6⟩ := zt_cn_of 0 0 h4 hoc
      have c6 := c6 nd T.2.2.2
      obtain ⟨t1, t2, _, _⟩ := zt_cn_f T c3
      rw [← c6] at t1 t2
      have hc4 := c3.2.1
      have tn0 : ¬ a_tag (nd (h + 1) (k / 16 ^ (h + 1))) = 0 := by
        rw [t1]
        refine nI_ne0 ?_ ?_
        · split <;> omega
        · split <;> omega
      obtain ⟨m1, m2⟩ := zb_fst_ok (p := zt_p mq h (k / 16 ^ (h + 1))) 16 (by show 0 < zt_kc mq h _; omega)
      have hch : c ≤ h := by
        apply Classical.byContradiction
        intro z
        have ec : c = h + 1 := by omega
        subst ec
        rw [Nat.sub_self, Nat.pow_zero, Nat.div_one] at c2
        subst c2
        rcases c3.2.2 with z | ⟨c', z1, z2⟩
        · omega
        · have : c' = h := by omega
          subst this
          omega
      have hq0 := zt_oc_lt T.1 c3.1
      have hgc : gc / 16 ^ (h - c) = zt_fk mq h (k / 16 ^ (h + 1)) := by
        refine zt_fk_1 ho1 ?_ ?_
        · have := zt_oc_up c3.1 (h - c)
          rw [show c + (h - c) = h by omega] at this
          exact this
        · rw [← c2, show h + 1 - c = (h - c) + 1 by omega, zb_dv]
      have hq1 : gc * 16 ^ c / 16 ^ (h + 1) = k / 16 ^ (h + 1) := by rw [zb_muldiv (by omega)]; exact c2
      have hfk : zt_fk mq h (k / 16 ^ (h + 1)) = 16 * (k / 16 ^ (h + 1)) + zb_fst (zt_p mq h (k / 16 ^ (h + 1))) 16 := rfl
      have hq2' : gc * 16 ^ c / 16 ^ h = zt_fk mq h (k / 16 ^ (h + 1)) := by rw [zb_muldiv hch]; exact hgc
      have hq2 : ¬ gc * 16 ^ c / 16 ^ h = k / 16 ^ h := by
        rw [hq2']
        intro z
        have m2 : zt_oc mq h (zt_fk mq h (k / 16 ^ (h + 1))) = true := m2
        rw [z] at m2
        exact E.2.1 h (by omega) m2
      have hmm : zb_fst (zt_p mq h (k / 16 ^ (h + 1))) 16 = gc * 16 ^ c / 16 ^ h % 16 := by rw [hq2', hfk]; omega
      have hnm : k / 16 ^ h % 16 ≠ zb_fst (zt_p mq h (k / 16 ^ (h + 1))) 16 := by
        intro z
        apply hq2
        rw [hq2', hfk, ← z, zb_dm]
      refine zx_covers hr.2 (fun z1 z2 => ?_) (fun _ => br_t rfl ⟨vp_in_nI hr.2 (by omega), br_f ?_ ?_⟩)
      · rw [pk_un nlf] at z1 z2
        rw [pk_un nlf] at z2
        exact absurd z2 (hstop z1)
      · rw [nI_clamp (by omega), pk_un nlf]
        exact tn0
      · refine zx_join (fc := fc) (k := k) (q := gc * 16 ^ c) (n := k / 16 ^ h % 16) (m := zb_fst (zt_p mq h (k / 16 ^ (h + 1))) 16) (h := h) (nb := nb) hr.2 f3 pk_us ((pk_un nlf).trans t2) hk (by omega) (by omega) hq1 hq2 rfl (by omega) g1 g3 nnb.symm rfl hmm ?_
        obtain ⟨h2, b1, b2, b3, b4⟩ := zt_h2 mq k (4 - (h + 1)) (h + 1 + 1) (by omega)
        have b5 : h2 ≤ 4 → zt_one mq k h2 = false := by
          intro z
          rcases b4 with ⟨z1, _⟩ | ⟨_, z1, _⟩
          · omega
          · exact z1
        have hge : ∀ a, a ∈ zt_bu mq k (h + 1 + 1) (4 - (h + 1)) → h2 ≤ a := by
          intro a ha
          rcases b4 with ⟨_, z1⟩ | ⟨_, _, z1⟩
          · rw [z1] at ha; cases ha
          · rw [z1, List.mem_append] at ha
            rcases ha with ha | ha
            · have := zt_bu_ge _ _ ha; omega
            · rw [List.mem_singleton] at ha; omega
        have w1 : ∀ i, i ≠ lf → i ≠ nb → upd (upd a_tag lf 1) nb (nI (5 - h)) i = a_tag i ∧ upd (upd a_second lf (nI k)) nb (nI (k / 16 ^ (h + 1) * 16 ^ (h + 1))) i = a_second i ∧
            upd (upd (upd (upd a_third lf v) nb 0) nb (0 ||| ((1 : Int32) <<< (nI (k / 16 ^ h % 16) &&& 31)))) nb ((0 ||| ((1 : Int32) <<< (nI (k / 16 ^ h % 16) &&& 31))) ||| ((1 : Int32) <<< (nI (zb_fst (zt_p mq h (k / 16 ^ (h + 1))) 16) &&& 31))) i = a_third i := by
          intro i i1 i2
          rw [pk_un i2, pk_un i1, pk_un i2, pk_un i1, pk_un i2, pk_un i2, pk_un i2, pk_un i1]
          exact ⟨rfl, rfl, rfl⟩
        have t3 : upd (upd (upd (upd a_third lf v) nb 0) nb (0 ||| ((1 : Int32) <<< (nI (k / 16 ^ h % 16) &&& 31)))) nb ((0 ||| ((1 : Int32) <<< (nI (k / 16 ^ h % 16) &&& 31))) ||| ((1 : Int32) <<< (nI (zb_fst (zt_p mq h (k / 16 ^ (h + 1))) 16) &&& 31))) lf = v := by
          rw [pk_un hne, pk_un hne, pk_un hne, pk_us]
        have hff : ∀ a g, a ≤ 4 → zt_oc mq a g = true → nd a g ≠ lf ∧ nd a g ≠ nb := fun a g x y => ⟨f4 a g x y, g4 a g x y⟩
        have tz : upd (upd a_tag lf 1) nb (nI (5 - h)) 0 = 0 := by rw [pk_un (by omega), pk_un (by omega)]; exact ht0
        have hcnt : fc + (if h + 1 ≤ 4 ∧ zt_one mq k (h + 1) = true then 2 else 1) = fc + 2 := by rw [if_pos ⟨h4, o1⟩]
        have hFF := zt_F_ins (v := v) (h2 := h2) (nb := nb) F (show fc ≤ fc + 2 by omega) E (fun i hi => hdis i (by omega)) (fun _ => hdis2)
        have hpp : ∀ i a, (zt_bu (zt_up mq k v) k (h + 1) (5 - (h + 1)))[i]? = some a → upd a_path (zt_bu mq k (h + 1 + 1) (4 - (h + 1))).length (nI nb) i = nI (zt_ni nd k (h + 1) h2 lf nb a (k / 16 ^ a)) := by
          intro i a hi
          rw [hbu] at hi
          by_cases ei : i = (zt_bu mq k (h + 1 + 1) (4 - (h + 1))).length
          · subst ei
            rw [List.getElem?_append_right (Nat.le_refl _), Nat.sub_self] at hi
            cases hi
            rw [pk_us, zt_ni_nb (Nat.le_refl _) (by omega)]
          · have hlt := zy_T_lt' hi
            rw [List.length_append, List.length_singleton] at hlt
            rw [pk_un ei, hpath i a hi]
            rw [List.getElem?_append_left (by omega)] at hi
            have := hge a (zt_mem hi)
            rw [zt_ni_nd (by omega) this]
        rcases b4 with ⟨z5, zb⟩ | ⟨z4, zo, zb⟩
        · subst z5
          have T' := zt_insB (v := v) (lf := lf) (nb := nb) (tag' := upd (upd a_tag lf 1) nb (nI (5 - h))) (second' := upd (upd a_second lf (nI k)) nb (nI (k / 16 ^ (h + 1) * 16 ^ (h + 1)))) (third' := upd (upd (upd (upd a_third lf v) nb 0) nb (0 ||| ((1 : Int32) <<< (nI (k / 16 ^ h % 16) &&& 31)))) nb ((0 ||| ((1 : Int32) <<< (nI (k / 16 ^ h % 16) &&& 31))) ||| ((1 : Int32) <<< (nI (zb_fst (zt_p mq h (k / 16 ^ (h + 1))) 16) &&& 31)))) (kids' := upd (upd a_kids (16 * nb + k / 16 ^ h % 16) (nI lf)) (16 * nb + zb_fst (zt_p mq h (k / 16 ^ (h + 1))) 16) (nI (nd (h + 1) (k / 16 ^ (h + 1)))))
            T hk E h4 o1 (by omega) b3 b5 ⟨f2, f3⟩ ⟨g2, g3⟩ hff ((pk_un hne).trans pk_us) ((pk_un hne).trans pk_us) t3 pk_us pk_us pk_us w1 ((pk_un (by omega)).trans pk_us) pk_us (fun i w i1 hw _ => by rw [pk_un (by omega), pk_un (by omega)]) (fun z => by omega)
          rw [zb, List.length_nil] at hpl' hpp
          refine zx_ins68_0 hpl' ?_
          refine zx_ins96 (mp := zt_up mq k v) (nd := zt_ni nd k (h + 1) 5 lf nb) (n := n) (k := k) (b := h + 1) T' (by omega) (hon _) ?_ hpp (zt_I_ins E TH pk_us hz) hpr ?_
          · rw [hbu, zb, hpl']; rfl
          · intro hash' TH' hh'
            refine H (zt_ni nd k (h + 1) 5 lf nb) fc _ _ _ _ _ _ _ _ _ (zt_XS_ins hsz hn hk E h1 T' TH' ?_ tz (hh'.trans hz0) hFF rfl hcnt)
            rw [← zt_k4 hk, zt_ni_nb (by omega) (by omega)]
        · have oc2 := E.2.2 h2 (by omega) z4
          have cn2 : zt_cn mq h2 (k / 16 ^ h2) := zt_cn_way z4 oc2 (by rw [zo]; decide)
          have r2 := zt_range T z4 oc2
          obtain ⟨c', rfl⟩ : ∃ c', h2 = c' + 1 := ⟨h2 - 1, by omega⟩
          have kc2 : 2 ≤ zt_kc mq c' (k / 16 ^ (c' + 1)) := by
            rcases cn2.2.2 with z | ⟨c'', z1, z2⟩
            · omega
            · have : c'' = c' := by omega
              subst this
              exact z2
          obtain ⟨p1, p2, p3, p4, p5, p6⟩ := T.2.2.1 c' _ (by omega) kc2
          have npl := f4 _ _ z4 oc2
          have npn := g4 _ _ z4 oc2
          have hlz : (zt_bu mq k (h + 1 + 1) (4 - (h + 1))).length = (zt_bu mq k (c' + 1 + 1) (4 - (c' + 1))).length + 1 := by rw [zb, List.length_append]; rfl
          have hpd : a_path (zt_bu mq k (c' + 1 + 1) (4 - (c' + 1))).length = nI (nd (c' + 1) (k / 16 ^ (c' + 1))) := by
            refine hpath _ _ ?_
            rw [zb, List.append_assoc, List.getElem?_append_right (Nat.le_refl _), Nat.sub_self]
            rfl
          have hsame : ∀ t : Nat → Int32, t (nd (c' + 1) (k / 16 ^ (c' + 1))) = a_third (nd (c' + 1) (k / 16 ^ (c' + 1))) → upd t (nd (c' + 1) (k / 16 ^ (c' + 1))) (t (nd (c' + 1) (k / 16 ^ (c' + 1))) ||| ((1 : Int32) <<< (nI (k / 16 ^ c' % 16) &&& 31))) = t := by
            intro t ht
            rw [zb_or_same (by omega) (by
              rw [ht, p5, zb_mk_b (by omega)]
              show zt_oc mq c' (16 * (k / 16 ^ (c' + 1)) + k / 16 ^ c' % 16) = true
              rw [zb_dm]; exact E.2.2 c' (by omega) (by omega))]
            funext i
            by_cases ei : i = nd (c' + 1) (k / 16 ^ (c' + 1))
            · subst ei; exact pk_us
            · exact pk_un ei
          have T' := zt_insB (v := v) (lf := lf) (nb := nb) (tag' := upd (upd a_tag lf 1) nb (nI (5 - h))) (second' := upd (upd a_second lf (nI k)) nb (nI (k / 16 ^ (h + 1) * 16 ^ (h + 1)))) (third' := upd (upd (upd (upd a_third lf v) nb 0) nb (0 ||| ((1 : Int32) <<< (nI (k / 16 ^ h % 16) &&& 31)))) nb ((0 ||| ((1 : Int32) <<< (nI (k / 16 ^ h % 16) &&& 31))) ||| ((1 : Int32) <<< (nI (zb_fst (zt_p mq h (k / 16 ^ (h + 1))) 16) &&& 31)))) (kids' := upd (upd (upd a_kids (16 * nb + k / 16 ^ h % 16) (nI lf)) (16 * nb + zb_fst (zt_p mq h (k / 16 ^ (h + 1))) 16) (nI (nd (h + 1) (k / 16 ^ (h + 1))))) (16 * nd (c' + 1) (k / 16 ^ (c' + 1)) + k / 16 ^ c' % 16) (nI nb))
            T hk E h4 o1 (by omega) b3 b5 ⟨f2, f3⟩ ⟨g2, g3⟩ hff ((pk_un hne).trans pk_us) ((pk_un hne).trans pk_us) t3 pk_us pk_us pk_us w1
            ((pk_un (by omega)).trans ((pk_un (by omega)).trans pk_us)) ((pk_un (by omega)).trans pk_us)
            (fun i w i1 hw hx => by
              rw [Nat.add_sub_cancel] at hx
              rw [pk_un (fun z => hx ⟨z4, by omega, by omega⟩), pk_un (by omega), pk_un (by omega)])
            (fun _ => by rw [Nat.add_sub_cancel]; exact pk_us)
          rw [hlz] at hpl' hpp
          refine zx_ins68_1 (d := (zt_bu mq k (c' + 1 + 1) (4 - (c' + 1))).length) (i := nd (c' + 1) (k / 16 ^ (c' + 1))) (n := k / 16 ^ c' % 16) hpl' (by omega) hpd p2 (by omega) ?_ ?_
          · dsimp only
            rw [pk_un npn, pk_un npl, p3, (zb_tag c' (by omega)).2.2.2.1, zb_D_nI hk (by omega)]
          · dsimp only
            rw [hsame _ (by rw [pk_un npn, pk_un npn, pk_un npn, pk_un npl])]
            refine zx_ins96 (mp := zt_up mq k v) (nd := zt_ni nd k (h + 1) (c' + 1) lf nb) (n := n) (k := k) (b := h + 1) T' (by omega) (hon _) ?_ hpp (zt_I_ins E TH pk_us hz) hpr ?_
            · rw [hbu, List.length_append, hlz, hpl']; rfl
            · intro hash' TH' hh'
              refine H (zt_ni nd k (h + 1) (c' + 1) lf nb) fc _ _ _ _ _ _ _ _ _ (zt_XS_ins hsz hn hk E h1 T' TH' ?_ tz (hh'.trans hz0) hFF rfl hcnt)
              have o4 := E.2.2 4 h4 (Nat.le_refl _)
              rw [zt_k4 hk] at o4
              rw [htop, if_pos o4, ← zt_k4 hk, zt_ni_nd (by omega) (by omega)]
    · have o1' := zt_nt o1
      have hkc : 2 ≤ zt_kc mq h (k / 16 ^ (h + 1)) := by
        have := (zt_oc_S mq h _).mp hoc
        have : ¬ zt_kc mq h (k / 16 ^ (h + 1)) = 1 := fun z => o1 (zt_one_S.mpr z)
        omega
      obtain ⟨a1, a2, a3, a4, a5, a6⟩ := T.2.2.1 h _ (by omega) hkc
      have T' := zt_insA (v := v) (lf := lf) T hk E h4 o1' ⟨f2, f3⟩ f4
      have hs2 : a_second (nd (h + 1) (k / 16 ^ (h + 1))) = zb_P (nI k) (a_tag (nd (h + 1) (k / 16 ^ (h + 1))) - 2) := by
        rw [a3, a4, (zb_tag h (by omega)).2.2.2.1, show 3 - h = 4 - (h + 1) by omega, zb_P_nI hk (by omega)]
      refine zx_covers hr.2 (fun _ _ => br_f zb_1ne0 (zx_attach (n := k / 16 ^ h % 16) hr.2 (by omega) ?_ ?_)) (fun z => ?_)
      · rw [pk_un nlf, a3, (zb_tag h (by omega)).2.2.2.1, zb_D_nI hk (by omega)]
      · refine zx_ins96 (mp := zt_up mq k v) (nd := zt_ni nd k (h + 1) (h + 1) lf 0) (n := n) (k := k) (b := h + 1) T' (by omega) (hon _) ?_ ?_ (zt_I_ins E TH pk_us hz) hpr ?_
        · rw [hbu, List.length_append]; exact hpl'
        · intro i a hi
          have := zt_bu_ge _ _ (zt_mem hi)
          rw [hbu] at hi
          dsimp only
          rw [hpath i a hi, zt_ni_nd (by omega) (by omega)]
        · intro hash' TH' hh'
          refine H (zt_ni nd k (h + 1) (h + 1) lf 0) (fc + 1) _ _ _ _ _ _ _ _ _ (zt_XS_ins hsz hn hk E h1 T' TH' ?_ ((pk_un (by omega)).trans ht0) (hh'.trans hz0) (zt_F_ins F (by omega) E hdis (fun z => by omega)) rfl ?_)
          · have o4 := E.2.2 4 h4 (Nat.le_refl _)
            rw [zt_k4 hk] at o4
            rw [htop, if_pos o4, ← zt_k4 hk, zt_ni_nd (by omega) (by omega)]
          · rw [if_neg (fun z => o1 z.2)]
      · rw [pk_un nlf, pk_un nlf] at z
        rcases z with z | z
        · rw [a3] at z; exact absurd z (zb_tag h (by omega)).2.2.1
        · exact absurd hs2 z
end
end
section
/-! X's put -/
section
variable {f_capacity f_seed f_bits f_freeCount f_top f_pairs f_pathLen f_status f_claimRoot f_claimKey f_fedLen f_node f_need f_running f_expected f_level : Int32} {a_tag a_second a_third a_hash a_kids a_freeIds a_path a_fed a_starts : Nat → Int32}
theorem zx_put_bad {post : Int32 → SX → Prop} {x v : Int32} (hx : ¬ zb_K x) (H : post (-1) (f_capacity, f_seed, f_bits, f_freeCount, f_top, f_pairs, f_pathLen, f_status, f_claimRoot, f_claimKey, f_fedLen, f_node, f_need, f_running, f_expected, f_level, a_tag, a_second, a_third, a_hash, a_kids, a_freeIds, a_path, a_fed, a_starts)) : wpX_put post (f_capacity, f_seed, f_bits, f_freeCount, f_top, f_pairs, f_pathLen, f_status, f_claimRoot, f_claimKey, f_fedLen, f_node, f_need, f_running, f_expected, f_level, a_tag, a_second, a_third, a_hash, a_kids, a_freeIds, a_path, a_fed, a_starts) x v := by
  unfold wpX_put
  exact zx_isKey (fun z => absurd z hx) (fun _ => br_t rfl H)
theorem zx_put {post : Int32 → SX → Prop} {mp : Nat → Option Int32} {nd : Nat → Nat → Nat} {fi : Nat → Nat} {fc n k cap : Nat} {v : Int32}
    (S : zt_XS f_seed f_bits mp nd fi fc n f_freeCount f_top f_pairs a_tag a_second a_third a_hash a_kids a_freeIds) (hk : k < 65536) (hcap : f_capacity = nI cap) (hc16 : cap ≤ 16) (hnc : n ≤ cap)
    (H1 : (mp k).isSome = true → ∀ pl third hash path, zt_XS f_seed f_bits (zt_up mp k v) nd fi fc n f_freeCount f_top f_pairs a_tag a_second third hash a_kids a_freeIds → post 6 (f_capacity, f_seed, f_bits, f_freeCount, f_top, f_pairs, pl, f_status, f_claimRoot, f_claimKey, f_fedLen, f_node, f_need, f_running, f_expected, f_level, a_tag, a_second, third, hash, a_kids, a_freeIds, path, a_fed, a_starts))
    (H2 : ¬ (mp k).isSome = true → n < cap → ∀ nd' fc' fC top pairs pl tag second third hash kids path, zt_XS f_seed f_bits (zt_up mp k v) nd' fi fc' (n + 1) fC top pairs tag second third hash kids a_freeIds →
      post 5 (f_capacity, f_seed, f_bits, fC, top, pairs, pl, f_status, f_claimRoot, f_claimKey, f_fedLen, f_node, f_need, f_running, f_expected, f_level, tag, second, third, hash, kids, a_freeIds, path, a_fed, a_starts))
    (H3 : ¬ (mp k).isSome = true → ¬ n < cap → ∀ pl path, post 7 (f_capacity, f_seed, f_bits, f_freeCount, f_top, f_pairs, pl, f_status, f_claimRoot, f_claimKey, f_fedLen, f_node, f_need, f_running, f_expected, f_level, a_tag, a_second, a_third, a_hash, a_kids, a_freeIds, path, a_fed, a_starts)) : wpX_put post (f_capacity, f_seed, f_bits, f_freeCount, f_top, f_pairs, f_pathLen, f_status, f_claimRoot, f_claimKey, f_fedLen, f_node, f_need, f_running, f_expected, f_level, a_tag, a_second, a_third, a_hash, a_kids, a_freeIds, a_path, a_fed, a_starts) (nI k) v := by
  have S0 := S
  obtain ⟨T, TH, htop, ht0, hh0, F, hfc, hsz, hpr, hn⟩ := S
  unfold wpX_put
  refine zx_isKey (fun _ => br_f zb_1ne0 ?_) (fun z => absurd (zb_K_nI hk) z)
  refine zx_find T hk htop ht0 ?_ ?_
  · intro hs pa hp
    obtain ⟨a1, a2, _⟩ := T.2.1 k hs
    refine br_f (nI_ne0 (by omega) (by omega)) ⟨vp_in_nI a2 (by omega), nm_e ?_⟩
    dsimp only
    rw [nI_clamp (by omega)]
    have o : zt_oc mp 4 0 = true := by
      have := zt_oc_key hs 4
      rw [zt_k4 hk] at this
      exact this
    have hs' : (zt_up mp k v k).isSome = true := by rw [zt_up_k]; rfl
    have T' := zt_chg (v := v) T hk hs
    have hids : zt_ids mp nd k = (zt_bu (zt_up mp k v) k 0 (5 - 0)).map (fun a => nd a (k / 16 ^ a)) := by
      rw [zt_ids, if_pos o, zt_pl_p hs, zt_bu_ext (mp := zt_up mp k v) (mq := mp) (5 - 0) (fun h _ _ => zt_chg_one hs h)]
    refine zx_rehashPath (mp := zt_up mp k v) (nd := nd) (k := k) (b := 0) T' (by omega) (fun h _ _ => zt_up_oc_on) (by rw [hids, List.length_map]) ?_ (zt_I_chg hs TH) ?_
    · intro i a hi
      refine hp i _ ?_
      rw [hids]
      exact zt_map_get (f := fun a => nd a (k / 16 ^ a)) hi
    · intro hash' TH' hh'
      refine H1 hs _ _ _ _ ⟨T', TH', by rw [zt_chg_oc hs]; exact htop, ht0, hh'.trans hh0, ⟨fun i hi => ?_, F.2⟩, hfc, by rw [(zt_chg_sz hs 4 0).1]; exact hsz, hpr, by rw [(zt_chg_sz hs 4 0).2]; exact hn⟩
      obtain ⟨b1, b2, b3, b4⟩ := F.1 i hi
      refine ⟨b1, b2, b3, fun h g hh ho => ?_⟩
      rw [zt_chg_oc hs] at ho
      exact b4 h g hh ho
  · intro hs pa hp
    refine br_t rfl ?_
    dsimp only
    subst hcap
    rw [hpr]
    by_cases hl : n < cap
    · have hfc2 : 2 ≤ fc := by
        by_cases o : zt_oc mp 4 0 = true
        · have := zt_sz_le 4 0 o
          omega
        · have := (zt_sz_0 4 0 o).1
          omega
      obtain ⟨fc', rfl⟩ : ∃ m, fc = m + 2 := ⟨fc - 2, by omega⟩
      subst hpr
      refine br_t (nI_lt hl (by omega)) ?_
      refine zx_insert S0 hk hs rfl hp ?_
      intro nd' fc'' fC top pairs tag second third hash kids path XS
      exact H2 hs hl nd' fc'' fC top pairs _ tag second third hash kids path XS
    · subst hpr
      exact br_f (nI_nlt (by omega) (by omega)) (H3 hs hl _ _)
end
end
section
/-! X's remove -/
theorem zt_bu_skip {mp : Nat → Option Int32} {k : Nat} : ∀ d b e, (∀ h, b ≤ h → h < b + d → zt_one mp k h = true) → zt_bu mp k b (d + e) = zt_bu mp k (b + d) e := by
  intro d
  induction d with
  | zero => intro b e _; rw [Nat.zero_add]; rfl
  | succ d ih =>
    intro b e H
    rw [show d + 1 + e = (d + e) + 1 by omega, zt_bu_split, if_pos (H b (Nat.le_refl _) (by omega)), List.append_nil, ih (b + 1) e (fun h a c => H h (by omega) (by omega))]
    rw [show b + 1 + d = b + (d + 1) by omega]
theorem zt_F_push {mq : Nat → Option Int32} {nd : Nat → Nat → Nat} {free : Nat → Int32} {fi : Nat → Nat} {fc x : Nat} (F : zt_F mq nd free fi fc) (h1 : 1 ≤ x) (h2 : x < 32) (h3 : ∀ h g, h ≤ 4 → zt_oc mq h g = true → nd h g ≠ x) (h4 : ∀ i, i < fc → fi i ≠ x) :
    zt_F mq nd (upd free fc (nI x)) (fun i => if i = fc then x else fi i) (fc + 1) := by
  refine ⟨fun i hi => ?_, fun i j hi hj e => ?_⟩
  · by_cases ei : i = fc
    · subst ei
      dsimp only
      rw [pk_us, if_pos rfl]
      exact ⟨rfl, h1, h2, h3⟩
    · dsimp only
      rw [pk_un ei, if_neg ei]
      exact F.1 i (by omega)
  · dsimp only at e
    by_cases ei : i = fc
    · by_cases ej : j = fc
      · omega
      · rw [if_pos ei, if_neg ej] at e
        exact absurd e.symm (h4 j (by omega))
    · by_cases ej : j = fc
      · rw [if_neg ei, if_pos ej] at e
        exact absurd e (h4 i (by omega))
      · rw [if_neg ei, if_neg ej] at e
        exact F.2 i j (by omega) (by omega) e
theorem zt_F_del {mq : Nat → Option Int32} {nd : Nat → Nat → Nat} {free : Nat → Int32} {fi : Nat → Nat} {fc k he h3 oth : Nat} {v : Int32} (F : zt_F (zt_up mq k v) nd free fi fc) (h1 : 1 ≤ he) (E : zt_he mq k he) (hC : he ≤ 4 → (he < h3 ↔ zt_one mq k he = true)) (hO : ∀ h', he < h3 → he = h' + 1 → oth = nd h' (zt_fk mq h' (k / 16 ^ he))) :
    zt_F mq (zt_nr nd k he h3 oth) free fi fc := by
  refine ⟨fun i hi => ?_, F.2⟩
  obtain ⟨b1, b2, b3, b4⟩ := F.1 i hi
  refine ⟨b1, b2, b3, fun h g hh ho => ?_⟩
  by_cases e : g = k / 16 ^ h ∧ he ≤ h ∧ h < h3
  · obtain ⟨rfl, e2, e3⟩ := e
    rw [zt_nr_o e2 e3]
    obtain ⟨h', rfl⟩ : ∃ m, he = m + 1 := ⟨he - 1, by omega⟩
    rw [hO h' (by omega) rfl]
    have o1 := zt_one_S.mp ((hC (by omega)).mp (by omega))
    exact b4 h' _ (by omega) (zt_up_oc.mpr (Or.inl (zt_fk_ok (by omega)).2))
  · have : zt_nr nd k he h3 oth h g = nd h g := if_neg e
    rw [this]
    exact b4 h g hh (zt_up_oc.mpr (Or.inl ho))
theorem zt_XS_del {s b : Int32} {mq : Nat → Option Int32} {nd' : Nat → Nat → Nat} {fi : Nat → Nat} {fc0 fc n k he : Nat} {v fC top : Int32} {tag second third hash kids free : Nat → Int32} (hsz : fc0 + zt_sz (zt_up mq k v) 4 0 = 31) (hn : n + 1 = zt_nl (zt_up mq k v) 4 0)
    (hk : k < 65536) (E : zt_he mq k he) (h1 : 1 ≤ he) (T : zt_T mq nd' tag second third kids) (TH : zt_TH s b mq nd' hash) (htop : top = nI (if zt_oc mq 4 0 = true then nd' 4 0 else 0)) (ht0 : tag 0 = 0) (hh0 : hash 0 = zh_H s b [0])
    (F : zt_F mq nd' free fi fc) (hfc : fC = nI fc) (hcnt : fc0 + (if he ≤ 4 ∧ zt_one mq k he = true then 2 else 1) = fc) :
    zt_XS s b mq nd' fi fc n fC top (nI n) tag second third hash kids free := by
  obtain ⟨s1, s2⟩ := zt_sz_up (v := v) E h1 4 (by omega)
  rw [zt_k4 hk] at s1 s2
  exact ⟨T, TH, htop, ht0, hh0, F, hfc, by rw [s2] at hsz; omega, rfl, by rw [s1] at hn; omega⟩
section
variable {f_capacity f_seed f_bits f_freeCount f_top f_pairs f_pathLen f_status f_claimRoot f_claimKey f_fedLen f_node f_need f_running f_expected f_level : Int32} {a_tag a_second a_third a_hash a_kids a_freeIds a_path a_fed a_starts : Nat → Int32}
theorem zx_detach {post : SX → Prop} {d i n fc pp n2 : Nat} {key : Int32} {p : Nat → Bool} (hl : f_pathLen = nI (d + 1)) (hd5 : d < 5) (hp : a_path d = nI i) (hi : i < 32) (hn : n < 16) (hd : zb_D key (a_tag i - 2) = nI n)
    (hm : a_third i &&& (((1 : Int32) <<< (nI n &&& 31)) ^^^ (-1)) = zb_mk p 16) (hfc : f_freeCount = nI fc) (hf32 : fc < 32) (hn2 : n2 < 16) (hpp : ∀ d', d = d' + 1 → a_path d' = nI pp ∧ pp < 32 ∧ zb_D key (a_tag pp - 2) = nI n2)
    (H2 : ¬ zb_cnt p 16 = 1 → post (f_capacity, f_seed, f_bits, f_freeCount, f_top, f_pairs, f_pathLen, f_status, f_claimRoot, f_claimKey, f_fedLen, f_node, f_need, f_running, f_expected, f_level, a_tag, a_second, upd a_third i (zb_mk p 16), a_hash, a_kids, a_freeIds, a_path, a_fed, a_starts))
    (H0 : zb_cnt p 16 = 1 → d = 0 → post (f_capacity, f_seed, f_bits, nI (fc + 1), a_kids (16 * i + zb_fst p 16), f_pairs, nI 0, f_status, f_claimRoot, f_claimKey, f_fedLen, f_node, f_need, f_running, f_expected, f_level, a_tag, a_second, upd a_third i (zb_mk p 16), a_hash, a_kids, upd a_freeIds fc (nI i), a_path, a_fed, a_starts))
    (H1 : zb_cnt p 16 = 1 → ∀ d', d = d' + 1 → post (f_capacity, f_seed, f_bits, nI (fc + 1), f_top, f_pairs, nI d, f_status, f_claimRoot, f_claimKey, f_fedLen, f_node, f_need, f_running, f_expected, f_level, a_tag, a_second, upd (upd a_third i (zb_mk p 16)) pp (upd a_third i (zb_mk p 16) pp ||| ((1 : Int32) <<< (nI n2 &&& 31))), a_hash, upd a_kids (16 * pp + n2) (a_kids (16 * i + zb_fst p 16)), upd a_freeIds fc (nI i), a_path, a_fed, a_starts)) :
    wpX_detach post (f_capacity, f_seed, f_bits, f_freeCount, f_top, f_pairs, f_pathLen, f_status, f_claimRoot, f_claimKey, f_fedLen, f_node, f_need, f_running, f_expected, f_level, a_tag, a_second, a_third, a_hash, a_kids, a_freeIds, a_path, a_fed, a_starts) key := by
  subst hl hfc
  have e1 : nI (d + 1) - 1 = nI d := nI_pred d
  have v : vp_in (nI i) 32 := vp_in_nI hi (by omega)
  have ei : (nI i).toNatClampNeg = i := nI_clamp (by omega)
  unfold wpX_detach
  dsimp only
  rw [e1, nI_clamp (by omega), hp]
  refine ⟨vp_in_nI hd5 (by omega), nm_e ?_⟩
  rw [ei]
  refine ⟨v, zx_digit ?_⟩
  rw [hd]
  refine ⟨v, nm_r (e' := zb_mk p 16) hm ⟨v, nm_e (zx_bitCount ?_)⟩⟩
  rw [zb_cnt_ext (q := p) 16 (fun i hi => zb_mk_b hi)]
  have hc := zb_cnt_le p 16
  by_cases h1 : zb_cnt p 16 = 1
  · rw [h1]
    refine br_t rfl (zx_bitCount ?_)
    have hf := zb_fst_ok 16 (show 0 < zb_cnt p 16 by omega)
    rw [zb_only h1, zb_ix, nI_clamp (by omega)]
    refine ⟨vp_in_nI (by omega) (by omega), ?_⟩
    rcases d with _ | d
    · refine br_t rfl ?_
      refine zx_release rfl hf32 (nm_r (e' := nI 0) e1 ?_)
      exact H0 h1 rfl
    · obtain ⟨q1, q2, q3⟩ := hpp d rfl
      have e2 : nI (d + 1) - 1 = nI d := nI_pred d
      refine br_f (nI_ne0 (by omega) (by omega)) ?_
      rw [e2, nI_clamp (by omega), q1]
      refine ⟨vp_in_nI (by omega) (by omega), zx_attach q2 hn2 q3 ?_⟩
      refine zx_release rfl hf32 (nm_r (e' := nI (d + 1)) e1 ?_)
      exact H1 h1 d rfl
  · exact br_f (by rw [show (1 : Int32) = nI 1 from rfl, nI_eq (by omega) (by omega)]; exact h1) (H2 h1)
end
end
section
/-! X's remove and get -/
theorem zt_nosig2 {mq : Nat → Option Int32} {nd : Nat → Nat → Nat} {tag second third kids : Nat → Int32} {k h x : Nat} (T : zt_T mq nd tag second third kids) (hc : ¬ 2 ≤ zt_kc mq h (k / 16 ^ (h + 1))) (h4 : h + 1 ≤ 4)
    (t1 : tag x = nI (5 - h)) (t2 : second x = nI (k / 16 ^ (h + 1) * 16 ^ (h + 1))) (hk : k < 65536 := by omega) : ∀ c gc, zt_cn mq c gc → tag x = nI (if c = 0 then 1 else 6 - c) → second x = nI (gc * 16 ^ c) → False := by
  intro c gc cn e1 e2
  have c4 := cn.2.1
  rw [t1, nI_eq (by omega) (by split <;> omega)] at e1
  have ec : c = h + 1 := by split at e1 <;> omega
  subst ec
  rw [t2, zb_mul_inj (zt_kl hk) (zt_gl T.1 cn.1)] at e2
  subst e2
  rcases cn.2.2 with z | ⟨c', z1, z2⟩
  · omega
  · have : c' = h := by omega
    subst this
    exact hc z2
section
variable {f_capacity f_seed f_bits f_freeCount f_top f_pairs f_pathLen f_status f_claimRoot f_claimKey f_fedLen f_node f_need f_running f_expected f_level : Int32} {a_tag a_second a_third a_hash a_kids a_freeIds a_path a_fed a_starts : Nat → Int32}
theorem zx_remove_bad {post : Int32 → SX → Prop} {x : Int32} (hx : ¬ zb_K x) (H : post (-1) (f_capacity, f_seed, f_bits, f_freeCount, f_top, f_pairs, f_pathLen, f_status, f_claimRoot, f_claimKey, f_fedLen, f_node, f_need, f_running, f_expected, f_level, a_tag, a_second, a_third, a_hash, a_kids, a_freeIds, a_path, a_fed, a_starts)) : wpX_remove post (f_capacity, f_seed, f_bits, f_freeCount, f_top, f_pairs, f_pathLen, f_status, f_claimRoot, f_claimKey, f_fedLen, f_node, f_need, f_running, f_expected, f_level, a_tag, a_second, a_third, a_hash, a_kids, a_freeIds, a_path, a_fed, a_starts) x := by
  unfold wpX_remove
  exact zx_isKey (fun z => absurd z hx) (fun _ => br_t rfl H)
theorem zx_remove_no {post : Int32 → SX → Prop} {mp : Nat → Option Int32} {nd : Nat → Nat → Nat} {fi : Nat → Nat} {fc n k : Nat}
    (S : zt_XS f_seed f_bits mp nd fi fc n f_freeCount f_top f_pairs a_tag a_second a_third a_hash a_kids a_freeIds) (hk : k < 65536) (hs : ¬ (mp k).isSome = true)
    (H : ∀ pl path, post 9 (f_capacity, f_seed, f_bits, f_freeCount, f_top, f_pairs, pl, f_status, f_claimRoot, f_claimKey, f_fedLen, f_node, f_need, f_running, f_expected, f_level, a_tag, a_second, a_third, a_hash, a_kids, a_freeIds, path, a_fed, a_starts)) : wpX_remove post (f_capacity, f_seed, f_bits, f_freeCount, f_top, f_pairs, f_pathLen, f_status, f_claimRoot, f_claimKey, f_fedLen, f_node, f_need, f_running, f_expected, f_level, a_tag, a_second, a_third, a_hash, a_kids, a_freeIds, a_path, a_fed, a_starts) (nI k) := by
  obtain ⟨T, TH, htop, ht0, hh0, F, hfc, hsz, hpr, hn⟩ := S
  unfold wpX_remove
  refine zx_isKey (fun _ => br_f zb_1ne0 ?_) (fun z => absurd (zb_K_nI hk) z)
  refine zx_find T hk htop ht0 (fun z => absurd z hs) ?_
  intro _ pa _
  exact br_t rfl (H _ _)
theorem zx_get_bad {post : Int64 → SX → Prop} {x : Int32} (hx : ¬ zb_K x) (H : post 4294967296 (f_capacity, f_seed, f_bits, f_freeCount, f_top, f_pairs, f_pathLen, f_status, f_claimRoot, f_claimKey, f_fedLen, f_node, f_need, f_running, f_expected, f_level, a_tag, a_second, a_third, a_hash, a_kids, a_freeIds, a_path, a_fed, a_starts)) : wpX_get post (f_capacity, f_seed, f_bits, f_freeCount, f_top, f_pairs, f_pathLen, f_status, f_claimRoot, f_claimKey, f_fedLen, f_node, f_need, f_running, f_expected, f_level, a_tag, a_second, a_third, a_hash, a_kids, a_freeIds, a_path, a_fed, a_starts) x := by
  unfold wpX_get
  exact zx_isKey (fun z => absurd z hx) (fun _ => br_t rfl H)
theorem zx_get {post : Int64 → SX → Prop} {mp : Nat → Option Int32} {nd : Nat → Nat → Nat} {fi : Nat → Nat} {fc n k : Nat}
    (S : zt_XS f_seed f_bits mp nd fi fc n f_freeCount f_top f_pairs a_tag a_second a_third a_hash a_kids a_freeIds) (hk : k < 65536)
    (H1 : ∀ v pl path, mp k = some v → post v.toInt64 (f_capacity, f_seed, f_bits, f_freeCount, f_top, f_pairs, pl, f_status, f_claimRoot, f_claimKey, f_fedLen, f_node, f_need, f_running, f_expected, f_level, a_tag, a_second, a_third, a_hash, a_kids, a_freeIds, path, a_fed, a_starts)) (H0 : ∀ pl path, mp k = none → post 4294967296 (f_capacity, f_seed, f_bits, f_freeCount, f_top, f_pairs, pl, f_status, f_claimRoot, f_claimKey, f_fedLen, f_node, f_need, f_running, f_expected, f_level, a_tag, a_second, a_third, a_hash, a_kids, a_freeIds, path, a_fed, a_starts)) : wpX_get post (f_capacity, f_seed, f_bits, f_freeCount, f_top, f_pairs, f_pathLen, f_status, f_claimRoot, f_claimKey, f_fedLen, f_node, f_need, f_running, f_expected, f_level, a_tag, a_second, a_third, a_hash, a_kids, a_freeIds, a_path, a_fed, a_starts) (nI k) := by
  obtain ⟨T, TH, htop, ht0, hh0, F, hfc, hsz, hpr, hn⟩ := S
  unfold wpX_get
  refine zx_isKey (fun _ => br_f zb_1ne0 ?_) (fun z => absurd (zb_K_nI hk) z)
  refine zx_find T hk htop ht0 ?_ ?_
  · intro hs pa _
    obtain ⟨a1, a2, _, _, a5⟩ := T.2.1 k hs
    cases hq : mp k with
    | none => rw [hq] at hs; cases hs
    | some q =>
      rw [hq] at a5
      refine br_f (nI_ne0 (by omega) (by omega)) ⟨vp_in_nI a2 (by omega), ?_⟩
      rw [nI_clamp (by omega), a5]
      exact H1 q _ _ hq
  · intro hs pa _
    refine br_t rfl (H0 _ _ ?_)
    cases hq : mp k with
    | none => rfl
    | some q => rw [hq] at hs; exact absurd rfl hs
theorem zx_remove {post : Int32 → SX → Prop} {mq : Nat → Option Int32} {nd : Nat → Nat → Nat} {fi : Nat → Nat} {fc n k : Nat} {v : Int32}
    (S : zt_XS f_seed f_bits (zt_up mq k v) nd fi fc (n + 1) f_freeCount f_top f_pairs a_tag a_second a_third a_hash a_kids a_freeIds) (hk : k < 65536) (hq : ¬ (mq k).isSome = true)
    (H : ∀ nd' fi' fc' fC top pairs pl third hash kids free path, zt_XS f_seed f_bits mq nd' fi' fc' n fC top pairs a_tag a_second third hash kids free →
      post 8 (f_capacity, f_seed, f_bits, fC, top, pairs, pl, f_status, f_claimRoot, f_claimKey, f_fedLen, f_node, f_need, f_running, f_expected, f_level, a_tag, a_second, third, hash, kids, free, path, a_fed, a_starts)) : wpX_remove post (f_capacity, f_seed, f_bits, f_freeCount, f_top, f_pairs, f_pathLen, f_status, f_claimRoot, f_claimKey, f_fedLen, f_node, f_need, f_running, f_expected, f_level, a_tag, a_second, a_third, a_hash, a_kids, a_freeIds, a_path, a_fed, a_starts) (nI k) := by
  obtain ⟨T, TH, htop, ht0, hh0, F, hfc, hsz, hpr, hn⟩ := S
  have hs : (zt_up mq k v k).isSome = true := by rw [zt_up_k]; rfl
  have o4 : zt_oc (zt_up mq k v) 4 0 = true := by
    have := zt_oc_key hs 4
    rw [zt_k4 hk] at this
    exact this
  have hsz1 := zt_sz_le 4 0 o4
  obtain ⟨he, E⟩ := zt_he_ex mq k
  have h1 : 1 ≤ he := by
    apply Classical.byContradiction
    intro z
    have := E.2.2 0 (by omega) (by omega)
    rw [zt_k0] at this
    exact hq this
  obtain ⟨a1, a2, a3, a4, _⟩ := T.2.1 k hs
  have hs2 := (zt_sz_up (v := v) E h1 4 (by omega)).2
  rw [zt_k4 hk] at hs2
  have hfc1 : fc ≤ 30 := by
    split at hs2 <;> omega
  have hfx : ∀ i, i < fc → fi i ≠ nd 0 k := fun i hi => ((F.1 i hi).2.2.2 0 k (by omega) hs).symm
  have hids : zt_ids (zt_up mq k v) nd k = (zt_bu (zt_up mq k v) k 1 4 ++ [0]).map (fun a => nd a (k / 16 ^ a)) := by
    rw [zt_ids, if_pos o4, zt_pl_p hs, zt_bu_split, if_neg (show ¬ zt_one (zt_up mq k v) k 0 = true by rw [zt_one]; decide)]
  have hz : zh_H f_seed f_bits [0] = a_hash 0 := hh0.symm
  unfold wpX_remove
  refine zx_isKey (fun _ => br_f zb_1ne0 ?_) (fun z => absurd (zb_K_nI hk) z)
  refine zx_find T hk htop ht0 ?_ (fun z => absurd hs z)
  intro _ pa hp
  have hpath : ∀ i a, (zt_bu (zt_up mq k v) k 1 4 ++ [0])[i]? = some a → pa i = nI (nd a (k / 16 ^ a)) := by
    intro i a hi
    refine hp i _ ?_
    rw [hids]
    exact zt_map_get (f := fun a => nd a (k / 16 ^ a)) hi
  have hlen : (zt_ids (zt_up mq k v) nd k).length = (zt_bu (zt_up mq k v) k 1 4).length + 1 := by rw [hids, List.length_map, List.length_append]; rfl
  refine br_f (nI_ne0 (by omega) (by omega)) (zx_release hfc (by omega) (nm_r (e' := nI n) (by rw [hpr]; exact nI_pred n) (nm_r (e' := nI (zt_bu (zt_up mq k v) k 1 4).length) (by rw [hlen]; exact nI_pred _) ?_)))
  by_cases h5 : he = 5
  · subst h5
    have hb0 : zt_bu (zt_up mq k v) k 1 4 = [] := zt_bu_skip (mp := zt_up mq k v) (k := k) 4 1 0 (fun h x y => zt_he_one_lt E (by omega) (by omega))
    have o : ¬ zt_oc mq 4 0 = true := by
      have := E.2.1 4 (by omega)
      rw [zt_k4 hk] at this
      exact this
    have hCC : 5 ≤ 4 → (5 < 5 ↔ zt_one mq k 5 = true) := fun z => by omega
    have hOO : ∀ h', 5 < 5 → 5 = h' + 1 → 0 = nd h' (zt_fk mq h' (k / 16 ^ 5)) := fun h' z => by omega
    have T' := zt_del (oth := 0) (tag' := a_tag) (second' := a_second) (third' := a_third) (kids' := a_kids) T E h1 (Nat.le_refl _) (fun h x y => by omega) (fun x => by omega) hCC hOO (fun c gc _ _ _ => ⟨rfl, rfl, rfl⟩) (fun c gc w _ _ _ _ => rfl) (fun h' _ x y => by omega) (fun c' x => by omega)
    rw [hb0]
    refine br_t rfl ?_
    have I := zt_I_del E h1 TH hCC hOO
    rw [if_neg (by omega)] at I
    refine zx_rehashPath (mp := mq) (nd := zt_nr nd k 5 5 0) (k := k) (b := 5) T' (by omega) (fun h x y => by omega) rfl (fun i a hi => by cases hi) I ?_
    intro hash' TH' hh'
    refine H (zt_nr nd k 5 5 0) _ (fc + 1) _ _ _ _ _ _ _ _ _ (zt_XS_del hsz hn hk E h1 T' TH' (by rw [if_neg o]; rfl) ht0 (hh'.trans hh0) (zt_F_push (zt_F_del F h1 E hCC hOO) a1 a2 ?_ hfx) rfl (by rw [if_neg (fun z => by omega)]))
    intro h g hh ho z
    exact zt_nosig T' hk hq hh ho (by rw [z]; exact ⟨a3, a4⟩)
  · have h4 : he ≤ 4 := by have := E.1; omega
    obtain ⟨h, rfl⟩ : ∃ m, he = m + 1 := ⟨he - 1, by omega⟩
    have hocq := E.2.2 (h + 1) (Nat.le_refl _) h4
    have hkcq := (zt_oc_S mq h _).mp hocq
    have hkcp := zt_up_kc1 (v := v) (E.2.1 h (by omega))
    obtain ⟨b1, b2, b3, b4, b5, b6⟩ := T.2.2.1 h (k / 16 ^ (h + 1)) (by omega) (by rw [hkcp]; omega)
    have hcnp : zt_cn (zt_up mq k v) (h + 1) (k / 16 ^ (h + 1)) := ⟨zt_up_oc_on, h4, Or.inr ⟨h, rfl, by rw [hkcp]; omega⟩⟩
    have hcn0 : zt_cn (zt_up mq k v) 0 k := ⟨hs, by omega, Or.inl rfl⟩
    have hnlb : nd 0 k ≠ nd (h + 1) (k / 16 ^ (h + 1)) := fun z => by have := (zt_uniq T hcn0 hcnp z).1; omega
    have hbu : zt_bu (zt_up mq k v) k 1 4 = zt_bu mq k (h + 1 + 1) (4 - (h + 1)) ++ [h + 1] := by
      have := zt_bu_skip (mp := zt_up mq k v) (k := k) h 1 (4 - h) (fun h' x y => zt_he_one_lt E (by omega) (by omega))
      rw [show h + (4 - h) = 4 by omega, show 1 + h = h + 1 by omega, show 4 - h = 5 - (h + 1) by omega, zt_bu_up E h1 h4] at this
      exact this
    have hdl := zt_bu_len mq k (h + 1 + 1) (4 - (h + 1))
    have hlb : (zt_bu (zt_up mq k v) k 1 4).length = (zt_bu mq k (h + 1 + 1) (4 - (h + 1))).length + 1 := by rw [hbu, List.length_append]; rfl
    rw [hbu] at hpath
    have hpd : pa (zt_bu mq k (h + 1 + 1) (4 - (h + 1))).length = nI (nd (h + 1) (k / 16 ^ (h + 1))) := by
      refine hpath _ _ ?_
      rw [List.append_assoc, List.getElem?_append_right (Nat.le_refl _), Nat.sub_self]
      rfl
    have hpi : ∀ i a, (zt_bu mq k (h + 1 + 1) (4 - (h + 1)))[i]? = some a → pa i = nI (nd a (k / 16 ^ a)) := by
      intro i a hi
      refine hpath i a ?_
      rw [List.append_assoc, List.getElem?_append_left (zy_T_lt' hi)]
      exact hi
    have hmask : a_third (nd (h + 1) (k / 16 ^ (h + 1))) &&& (((1 : Int32) <<< (nI (k / 16 ^ h % 16) &&& 31)) ^^^ (-1)) = zb_mk (zt_p mq h (k / 16 ^ (h + 1))) 16 := by
      rw [b5]
      refine zb_mk_clr (by omega) ?_
      intro w hw
      by_cases ew : w = k / 16 ^ h % 16
      · subst ew
        rw [decide_eq_true rfl, Bool.not_true, Bool.and_false]
        show zt_oc mq h (16 * (k / 16 ^ (h + 1)) + k / 16 ^ h % 16) = false
        rw [zb_dm]
        exact zt_nt (E.2.1 h (by omega))
      · rw [decide_eq_false ew, Bool.not_false, Bool.and_true]
        exact (zt_up_oc_off (fun z => ew (zt_w_on z))).symm
    obtain ⟨h3, c1, c2, c3, c4⟩ := zt_h2 mq k (4 - (h + 1)) (h + 1 + 1) (by omega)
    have o4q := E.2.2 4 h4 (Nat.le_refl _)
    have hob : ∀ b, h + 1 ≤ b → ∀ x, b ≤ x → x ≤ 4 → zt_oc mq x (k / 16 ^ x) = true := fun b hb x y z => E.2.2 x (by omega) z
    have c5 : h3 ≤ 4 → zt_one mq k h3 = false := by
      intro z
      rcases c4 with ⟨z1, _⟩ | ⟨_, z1, _⟩
      · omega
      · exact z1
    have hge : ∀ a, a ∈ zt_bu mq k (h + 1 + 1) (4 - (h + 1)) → h3 ≤ a := by
      intro a ha
      rcases c4 with ⟨_, z1⟩ | ⟨_, _, z1⟩
      · rw [z1] at ha; cases ha
      · rw [z1, List.mem_append] at ha
        rcases ha with ha | ha
        · have := zt_bu_ge _ _ ha; omega
        · rw [List.mem_singleton] at ha; omega
    have hcnh3 : h3 ≤ 4 → zt_cn (zt_up mq k v) h3 (k / 16 ^ h3) := fun z => zt_cn_way z zt_up_oc_on (by rw [zt_he_one_gt E (by omega) z, c5 z]; decide)
    have hpp : ∀ d', (zt_bu mq k (h + 1 + 1) (4 - (h + 1))).length = d' + 1 → pa d' = nI (nd h3 (k / 16 ^ h3)) ∧ nd h3 (k / 16 ^ h3) < 32 ∧ zb_D (nI k) (a_tag (nd h3 (k / 16 ^ h3)) - 2) = nI (k / 16 ^ (h3 - 1) % 16) := by
      intro d' hd'
      rcases c4 with ⟨_, z1⟩ | ⟨z4, z0, z1⟩
      · rw [z1, List.length_nil] at hd'; omega
      · have cf := zt_cn_f T (hcnh3 z4)
        refine ⟨?_, cf.2.2.2, ?_⟩
        · refine hpi d' h3 ?_
          rw [z1, List.length_append, List.length_singleton] at hd'
          rw [z1, show d' = (zt_bu mq k (h3 + 1) (4 - h3)).length by omega, List.getElem?_append_right (Nat.le_refl _), Nat.sub_self]
          rfl
        · rw [cf.1, if_neg (by omega), show 6 - h3 = 5 - (h3 - 1) by omega, (zb_tag (h3 - 1) (by omega)).2.2.2.1, zb_D_nI hk (by omega)]
    rw [hlb]
    refine br_f (nI_ne0 (by omega) (by omega)) ?_
    refine zx_detach (d := (zt_bu mq k (h + 1 + 1) (4 - (h + 1))).length) (i := nd (h + 1) (k / 16 ^ (h + 1))) (n := k / 16 ^ h % 16) (fc := fc + 1) (pp := nd h3 (k / 16 ^ h3)) (n2 := k / 16 ^ (h3 - 1) % 16) (p := zt_p mq h (k / 16 ^ (h + 1))) rfl (by omega) hpd b2 (by omega) ?_ hmask rfl (by omega) (by omega) hpp ?_ ?_ ?_
    · rw [b3, (zb_tag h (by omega)).2.2.2.1, zb_D_nI hk (by omega)]
    · intro hc1
      have o1 : ¬ zt_one mq k (h + 1) = true := fun z => hc1 (zt_one_S.mp z)
      have hCC : h + 1 ≤ 4 → (h + 1 < h + 1 ↔ zt_one mq k (h + 1) = true) := fun _ => ⟨fun z => by omega, fun z => absurd z o1⟩
      have hOO : ∀ h', h + 1 < h + 1 → h + 1 = h' + 1 → 0 = nd h' (zt_fk mq h' (k / 16 ^ (h + 1))) := fun h' z => by omega
      have T' := zt_del (oth := 0) (tag' := a_tag) (second' := a_second) (third' := upd a_third (nd (h + 1) (k / 16 ^ (h + 1))) (zb_mk (zt_p mq h (k / 16 ^ (h + 1))) 16)) (kids' := a_kids) T E h1 (Nat.le_refl _) (fun h x y => by omega) (fun x => by omega) hCC hOO
        (fun c gc cc _ hn => ⟨rfl, rfl, pk_un (fun z => hn (zt_uniq T cc hcnp z))⟩) (fun c gc w _ _ _ _ => rfl) (fun h' _ x y => ⟨rfl, rfl, by rw [pk_us, show h' = h by omega], fun w _ => rfl⟩) (fun c' x => by omega)
      have I := zt_I_del E h1 TH hCC hOO
      rw [if_neg (by omega)] at I
      have hbq : zt_bu mq k (h + 1) (5 - (h + 1)) = zt_bu mq k (h + 1 + 1) (4 - (h + 1)) ++ [h + 1] := by
        rw [show 5 - (h + 1) = (4 - (h + 1)) + 1 by omega, zt_bu_split, if_neg o1]
      refine zx_rehashPath (mp := mq) (nd := zt_nr nd k (h + 1) (h + 1) 0) (k := k) (b := h + 1) T' (by omega) (hob _ (Nat.le_refl _)) (by rw [hbq, List.length_append]; rfl) ?_ I ?_
      · intro i a hi
        have := zt_bu_ge _ _ (zt_mem hi)
        rw [hbq] at hi
        rw [hpath i a (by rw [List.getElem?_append_left (zy_T_lt' hi)]; exact hi), zt_nr_hi this]
      · intro hash' TH' hh'
        refine H (zt_nr nd k (h + 1) (h + 1) 0) _ (fc + 1) _ _ _ _ _ _ _ _ _ (zt_XS_del hsz hn hk E h1 T' TH' ?_ ht0 (hh'.trans hh0) (zt_F_push (zt_F_del F h1 E hCC hOO) a1 a2 ?_ hfx) rfl (by rw [if_neg (fun z => o1 z.2)]))
        · rw [zt_k4 hk] at o4q
          rw [htop, if_pos o4, if_pos o4q, zt_nr_hi (by omega)]
        · intro h' g hh ho z
          exact zt_nosig T' hk hq hh ho (by rw [z]; exact ⟨a3, a4⟩)
    · intro hc1 hd0
      have hc1 : zt_kc mq h (k / 16 ^ (h + 1)) = 1 := hc1
      have o1 : zt_one mq k (h + 1) = true := zt_one_S.mpr hc1
      have e5 : h3 = 5 := by
        rcases c4 with ⟨z, _⟩ | ⟨_, _, z⟩
        · exact z
        · rw [z, List.length_append, List.length_singleton] at hd0; omega
      subst e5
      have hCC : h + 1 ≤ 4 → (h + 1 < 5 ↔ zt_one mq k (h + 1) = true) := fun _ => ⟨fun _ => o1, fun _ => by omega⟩
      have hOO : ∀ h', h + 1 < 5 → h + 1 = h' + 1 → nd h (zt_fk mq h (k / 16 ^ (h + 1))) = nd h' (zt_fk mq h' (k / 16 ^ (h + 1))) := fun h' _ z => by rw [show h' = h by omega]
      have T' := zt_del (h3 := 5) (oth := nd h (zt_fk mq h (k / 16 ^ (h + 1)))) (tag' := a_tag) (second' := a_second) (third' := upd a_third (nd (h + 1) (k / 16 ^ (h + 1))) (zb_mk (zt_p mq h (k / 16 ^ (h + 1))) 16)) (kids' := a_kids) T E h1 (by omega) c3 (fun _ z => by omega) hCC hOO
        (fun c gc cc _ hn => ⟨rfl, rfl, pk_un (fun z => hn (zt_uniq T cc hcnp z))⟩) (fun c gc w _ _ _ _ => rfl) (fun h' x y z => by omega) (fun c' x y z => by omega)
      have I := zt_I_del E h1 TH hCC hOO
      rw [if_pos (by omega)] at I
      have hbn : zt_bu mq k (h + 1 + 1) (5 - (h + 1 + 1)) = [] := by
        rw [show 5 - (h + 1 + 1) = 4 - (h + 1) by omega]; exact List.length_eq_zero_iff.mp hd0
      obtain ⟨f1, f2⟩ := zt_fk_ok (mp := mq) (h := h) (g := k / 16 ^ (h + 1)) (by omega)
      have hkid := b6 (zb_fst (zt_p mq h (k / 16 ^ (h + 1))) 16) (zb_fst_ok (p := zt_p mq h (k / 16 ^ (h + 1))) 16 (by show 0 < zt_kc mq h _; omega)).1 (zt_up_oc.mpr (Or.inl f2))
      have hkid : a_kids (16 * nd (h + 1) (k / 16 ^ (h + 1)) + zb_fst (zt_p mq h (k / 16 ^ (h + 1))) 16) = nI (nd h (zt_fk mq h (k / 16 ^ (h + 1)))) := hkid
      refine zx_rehashPath (mp := mq) (nd := zt_nr nd k (h + 1) 5 (nd h (zt_fk mq h (k / 16 ^ (h + 1))))) (k := k) (b := h + 1 + 1) T' (by omega) (hob _ (by omega)) (by rw [hbn]; rfl) (fun i a hi => by rw [hbn] at hi; cases hi) I ?_
      intro hash' TH' hh'
      refine H (zt_nr nd k (h + 1) 5 (nd h (zt_fk mq h (k / 16 ^ (h + 1))))) _ (fc + 1 + 1) _ _ _ _ _ _ _ _ _ (zt_XS_del hsz hn hk E h1 T' TH' ?_ ht0 (hh'.trans hh0) (zt_F_push (zt_F_push (zt_F_del F h1 E hCC hOO) a1 a2 ?_ hfx) b1 b2 ?_ ?_) rfl (by rw [if_pos ⟨h4, o1⟩]))
      · rw [hkid]
        have o4q' := o4q
        rw [zt_k4 hk] at o4q'
        rw [if_pos o4q', ← zt_k4 hk, zt_nr_o (by omega) (by omega)]
      · intro h' g hh ho z
        exact zt_nosig T' hk hq hh ho (by rw [z]; exact ⟨a3, a4⟩)
      · intro h' g hh ho
        exact zt_free T' (zt_nosig2 T' (by rw [hc1]; omega) h4 b3 b4) hh ho
      · intro i hi
        by_cases ei : i = fc
        · rw [if_pos ei]; exact hnlb
        · rw [if_neg ei]; exact ((F.1 i (by omega)).2.2.2 (h + 1) _ h4 zt_up_oc_on).symm
    · intro hc1 d' hd'
      have hc1 : zt_kc mq h (k / 16 ^ (h + 1)) = 1 := hc1
      have o1 : zt_one mq k (h + 1) = true := zt_one_S.mpr hc1
      have z4 : h3 ≤ 4 := by
        rcases c4 with ⟨_, z⟩ | ⟨z, _, _⟩
        · rw [z, List.length_nil] at hd'; omega
        · exact z
      have hCC : h + 1 ≤ 4 → (h + 1 < h3 ↔ zt_one mq k (h + 1) = true) := fun _ => ⟨fun _ => o1, fun _ => by omega⟩
      have hOO : ∀ h', h + 1 < h3 → h + 1 = h' + 1 → nd h (zt_fk mq h (k / 16 ^ (h + 1))) = nd h' (zt_fk mq h' (k / 16 ^ (h + 1))) := fun h' _ z => by rw [show h' = h by omega]
      have cn3 := hcnh3 z4
      have hnbp : nd h3 (k / 16 ^ h3) ≠ nd (h + 1) (k / 16 ^ (h + 1)) := fun z => by have := (zt_uniq T cn3 hcnp z).1; omega
      obtain ⟨c', rfl⟩ : ∃ c', h3 = c' + 1 := ⟨h3 - 1, by omega⟩
      have kc2 : 2 ≤ zt_kc (zt_up mq k v) c' (k / 16 ^ (c' + 1)) := by
        rcases cn3.2.2 with z | ⟨c'', z1, z2⟩
        · omega
        · have : c'' = c' := by omega
          subst this
          exact z2
      obtain ⟨p1, p2, p3, p4, p5, p6⟩ := T.2.2.1 c' _ (by omega) kc2
      obtain ⟨f1, f2⟩ := zt_fk_ok (mp := mq) (h := h) (g := k / 16 ^ (h + 1)) (by omega)
      have hkid := b6 (zb_fst (zt_p mq h (k / 16 ^ (h + 1))) 16) (zb_fst_ok (p := zt_p mq h (k / 16 ^ (h + 1))) 16 (by show 0 < zt_kc mq h _; omega)).1 (zt_up_oc.mpr (Or.inl f2))
      have hkid : a_kids (16 * nd (h + 1) (k / 16 ^ (h + 1)) + zb_fst (zt_p mq h (k / 16 ^ (h + 1))) 16) = nI (nd h (zt_fk mq h (k / 16 ^ (h + 1)))) := hkid
      have hsame : upd (upd a_third (nd (h + 1) (k / 16 ^ (h + 1))) (zb_mk (zt_p mq h (k / 16 ^ (h + 1))) 16)) (nd (c' + 1) (k / 16 ^ (c' + 1))) (upd a_third (nd (h + 1) (k / 16 ^ (h + 1))) (zb_mk (zt_p mq h (k / 16 ^ (h + 1))) 16) (nd (c' + 1) (k / 16 ^ (c' + 1))) ||| ((1 : Int32) <<< (nI (k / 16 ^ (c' + 1 - 1) % 16) &&& 31))) = upd a_third (nd (h + 1) (k / 16 ^ (h + 1))) (zb_mk (zt_p mq h (k / 16 ^ (h + 1))) 16) := by
        rw [pk_un hnbp, Nat.add_sub_cancel, zb_or_same (by omega) (by
          rw [p5, zb_mk_b (by omega)]
          show zt_oc (zt_up mq k v) c' (16 * (k / 16 ^ (c' + 1)) + k / 16 ^ c' % 16) = true
          rw [zb_dm]; exact zt_up_oc_on)]
        funext i
        by_cases ei : i = nd (c' + 1) (k / 16 ^ (c' + 1))
        · subst ei; rw [pk_us, pk_un hnbp]
        · exact pk_un ei
      rw [hsame, hkid, Nat.add_sub_cancel]
      have T' := zt_del (h3 := c' + 1) (oth := nd h (zt_fk mq h (k / 16 ^ (h + 1)))) (tag' := a_tag) (second' := a_second) (third' := upd a_third (nd (h + 1) (k / 16 ^ (h + 1))) (zb_mk (zt_p mq h (k / 16 ^ (h + 1))) 16)) (kids' := upd a_kids (16 * nd (c' + 1) (k / 16 ^ (c' + 1)) + k / 16 ^ c' % 16) (nI (nd h (zt_fk mq h (k / 16 ^ (h + 1)))))) T E h1 (by omega) c3 (fun _ => c5) hCC hOO
        (fun c gc cc _ hn => ⟨rfl, rfl, pk_un (fun z => hn (zt_uniq T cc hcnp z))⟩)
        (fun c gc w cc hn hw hx => pk_un (fun z => by
          obtain ⟨e1, e2⟩ := zt_uniq T cc cn3 (by omega)
          refine hx ⟨by omega, e1, ?_⟩
          rw [Nat.add_sub_cancel, e2, show w = k / 16 ^ c' % 16 by omega, zb_dm]))
        (fun h' x y z => by omega)
        (fun c'' _ x _ => by
          have : c'' = c' := by omega
          subst this
          exact pk_us)
      have I := zt_I_del E h1 TH hCC hOO
      rw [if_pos (by omega)] at I
      refine zx_rehashPath (mp := mq) (nd := zt_nr nd k (h + 1) (c' + 1) (nd h (zt_fk mq h (k / 16 ^ (h + 1))))) (k := k) (b := h + 1 + 1) T' (by omega) (hob _ (by omega)) (by rw [show 5 - (h + 1 + 1) = 4 - (h + 1) by omega]) ?_ I ?_
      · intro i a hi
        rw [show 5 - (h + 1 + 1) = 4 - (h + 1) by omega] at hi
        rw [hpi i a hi, zt_nr_hi (hge a (zt_mem hi))]
      · intro hash' TH' hh'
        refine H (zt_nr nd k (h + 1) (c' + 1) (nd h (zt_fk mq h (k / 16 ^ (h + 1))))) _ (fc + 1 + 1) _ _ _ _ _ _ _ _ _ (zt_XS_del hsz hn hk E h1 T' TH' ?_ ht0 (hh'.trans hh0) (zt_F_push (zt_F_push (zt_F_del F h1 E hCC hOO) a1 a2 ?_ hfx) b1 b2 ?_ ?_) rfl (by rw [if_pos ⟨h4, o1⟩]))
        · have o4q' := o4q
          rw [zt_k4 hk] at o4q'
          rw [htop, if_pos o4, if_pos o4q', zt_nr_hi (by omega)]
        · intro h' g hh ho z
          exact zt_nosig T' hk hq hh ho (by rw [z]; exact ⟨a3, a4⟩)
        · intro h' g hh ho
          exact zt_free T' (zt_nosig2 T' (by rw [hc1]; omega) h4 b3 b4) hh ho
        · intro i hi
          by_cases ei : i = fc
          · rw [if_pos ei]; exact hnlb
          · rw [if_neg ei]; exact ((F.1 i (by omega)).2.2.2 (h + 1) _ h4 zt_up_oc_on).symm
end
end
section
/-! Y's put, remove, get -/
theorem zb_P4 (x : Int32) : zb_P x 4 = x := by
  unfold zb_P
  rw [show (16 - (4 * 4) : Int32) = 0 by decide, sb_shr0, sb_shl0]
theorem zt_rm_k {mp : Nat → Option Int32} {k : Nat} : zt_rm mp k k = none := if_pos rfl
theorem zt_rm_n {mp : Nat → Option Int32} {k j : Nat} (h : j ≠ k) : zt_rm mp k j = mp j := if_neg h
theorem zy_M_chg {mp : Nat → Option Int32} {keys vals : Nat → Int32} {n : Nat} {kk : Nat → Nat} {i : Nat} {v : Int32} (M : zy_M mp keys vals n kk) (hi : i < n) : zy_M (zt_up mp (kk i) v) (upd keys i (nI (kk i))) (upd vals i v) n kk := by
  obtain ⟨M1, M2, M3, M4⟩ := M
  refine ⟨M1, ?_, ?_, M4⟩
  · intro j hj
    obtain ⟨a, b, c⟩ := M2 j hj
    by_cases e : j = i
    · subst e; rw [pk_us, pk_us, zt_up_k]; exact ⟨a, rfl, rfl⟩
    · rw [pk_un e, pk_un e, zt_up_n (fun z => e (M4 j i hj hi z))]; exact ⟨a, b, c⟩
  · intro k hs
    by_cases e : k = kk i
    · exact ⟨i, hi, e.symm⟩
    · rw [zt_up_n e] at hs; exact M3 k hs
theorem zy_M_add {mp : Nat → Option Int32} {keys vals : Nat → Int32} {n k : Nat} {kk : Nat → Nat} {v : Int32} (M : zy_M mp keys vals n kk) (hn : n < 16) (hk : k < 65536) (hs : ¬ (mp k).isSome = true) :
    zy_M (zt_up mp k v) (upd keys n (nI k)) (upd vals n v) (n + 1) (fun j => if j = n then k else kk j) := by
  obtain ⟨M1, M2, M3, M4⟩ := M
  have hne : ∀ j, j < n → kk j ≠ k := by
    intro j hj e
    apply hs
    rw [← e, (M2 j hj).2.2]
    rfl
  refine ⟨by omega, ?_, ?_, ?_⟩
  · intro j hj
    by_cases e : j = n
    · subst e; dsimp only; rw [pk_us, pk_us, if_pos rfl, zt_up_k]; exact ⟨hk, rfl, rfl⟩
    · obtain ⟨a, b, c⟩ := M2 j (by omega)
      dsimp only
      rw [pk_un e, pk_un e, if_neg e, zt_up_n (hne j (by omega))]; exact ⟨a, b, c⟩
  · intro x hx
    by_cases e : x = k
    · exact ⟨n, by omega, by dsimp only; rw [if_pos rfl]; exact e.symm⟩
    · rw [zt_up_n e] at hx
      obtain ⟨j, hj, ej⟩ := M3 x hx
      exact ⟨j, by omega, by dsimp only; rw [if_neg (by omega)]; exact ej⟩
  · intro i j hi hj e
    dsimp only at e
    by_cases ei : i = n
    · by_cases ej : j = n
      · omega
      · rw [if_pos ei, if_neg ej] at e; exact absurd e.symm (hne j (by omega))
    · by_cases ej : j = n
      · rw [if_neg ei, if_pos ej] at e; exact absurd e (hne i (by omega))
      · rw [if_neg ei, if_neg ej] at e; exact M4 i j (by omega) (by omega) e
theorem zy_M_rm {mp : Nat → Option Int32} {keys vals : Nat → Int32} {n : Nat} {kk : Nat → Nat} {i : Nat} (M : zy_M mp keys vals (n + 1) kk) (hi : i < n + 1) :
    zy_M (zt_rm mp (kk i)) (upd keys i (keys n)) (upd vals i (vals n)) n (fun j => if j = i then kk n else kk j) := by
  obtain ⟨M1, M2, M3, M4⟩ := M
  refine ⟨by omega, ?_, ?_, ?_⟩
  · intro j hj
    by_cases e : j = i
    · subst e
      obtain ⟨a, b, c⟩ := M2 n (by omega)
      dsimp only
      rw [pk_us, pk_us, if_pos rfl, zt_rm_n (fun z => by have := M4 n j (by omega) (by omega) z; omega)]
      exact ⟨a, b, c⟩
    · obtain ⟨a, b, c⟩ := M2 j (by omega)
      dsimp only
      rw [pk_un e, pk_un e, if_neg e, zt_rm_n (fun z => e (M4 j i (by omega) hi z))]; exact ⟨a, b, c⟩
  · intro x hx
    by_cases e : x = kk i
    · subst e; rw [zt_rm_k] at hx; cases hx
    · rw [zt_rm_n e] at hx
      obtain ⟨j, hj, ej⟩ := M3 x hx
      have hji : j ≠ i := fun z => e (by rw [← ej, z])
      by_cases en : j = n
      · exact ⟨i, by omega, by dsimp only; rw [if_pos rfl, ← en]; exact ej⟩
      · exact ⟨j, by omega, by dsimp only; rw [if_neg hji]; exact ej⟩
  · intro a b ha hb e
    dsimp only at e
    by_cases ea : a = i
    · by_cases eb : b = i
      · omega
      · rw [if_pos ea, if_neg eb] at e
        have := M4 n b (by omega) (by omega) e
        omega
    · by_cases eb : b = i
      · rw [if_neg ea, if_pos eb] at e
        have := M4 a n (by omega) (by omega) e
        omega
      · rw [if_neg ea, if_neg eb] at e
        exact M4 a b (by omega) (by omega) e
section
variable {f_capacity f_seed f_bits f_count f_tn f_proofLen f_proofNodes f_claim f_ck f_wn f_nodes f_claimed : Int32} {a_keys a_vals a_dig a_t a_proof a_proofStart a_w a_start : Nat → Int32}
theorem zy_find4 {post : Int32 → Prop} {x : Int32} {n : Nat} (hn : n ≤ 16) (hc : f_count = nI n) (a : ∀ j, j < n → a_keys j = x → post (nI j)) (b : (∀ j, j < n → ¬ a_keys j = x) → post (-1)) : wpY_find post (f_capacity, f_seed, f_bits, f_count, f_tn, f_proofLen, f_proofNodes, f_claim, f_ck, f_wn, f_nodes, f_claimed, a_keys, a_vals, a_dig, a_t, a_proof, a_proofStart, a_w, a_start) 4 x := by
  refine zy_find hn hc (fun j hj h => ?_) (fun h => b (fun j hj z => h j hj (by rw [z])))
  rw [zb_P4, zb_P4] at h
  exact a j hj h
theorem zy_nokey {mp : Nat → Option Int32} {n : Nat} {kk : Nat → Nat} {x : Int32} (M : zy_M mp a_keys a_vals n kk) (hx : ¬ zb_K x) : ∀ j, j < n → ¬ a_keys j = x := by
  intro j hj z
  obtain ⟨a, b, _⟩ := M.2.1 j hj
  rw [b] at z
  exact hx (z ▸ zb_K_nI a)
theorem zy_iskey {mp : Nat → Option Int32} {n k j : Nat} {kk : Nat → Nat} (M : zy_M mp a_keys a_vals n kk) (hk : k < 65536) (hj : j < n) (h : a_keys j = nI k) : kk j = k ∧ mp k = some (a_vals j) := by
  obtain ⟨a, b, c⟩ := M.2.1 j hj
  rw [b, nI_eq (by omega) (by omega)] at h
  subst h
  exact ⟨rfl, c⟩
theorem zy_noval {mp : Nat → Option Int32} {n k : Nat} {kk : Nat → Nat} (M : zy_M mp a_keys a_vals n kk) (h : ∀ j, j < n → ¬ a_keys j = nI k) : ¬ (mp k).isSome = true := by
  intro hs
  obtain ⟨j, hj, e⟩ := M.2.2.1 k hs
  refine h j hj ?_
  rw [(M.2.1 j hj).2.1, e]
theorem zy_put_bad {post : Int32 → SY → Prop} {mp : Nat → Option Int32} {n : Nat} {kk : Nat → Nat} {x v : Int32} (M : zy_M mp a_keys a_vals n kk) (hn : f_count = nI n) (hx : ¬ zb_K x) (H : post (-1) (f_capacity, f_seed, f_bits, f_count, f_tn, f_proofLen, f_proofNodes, f_claim, f_ck, f_wn, f_nodes, f_claimed, a_keys, a_vals, a_dig, a_t, a_proof, a_proofStart, a_w, a_start)) : wpY_put post (f_capacity, f_seed, f_bits, f_count, f_tn, f_proofLen, f_proofNodes, f_claim, f_ck, f_wn, f_nodes, f_claimed, a_keys, a_vals, a_dig, a_t, a_proof, a_proofStart, a_w, a_start) x v := by
  unfold wpY_put
  refine zy_find4 M.1 hn (fun j hj z => absurd z (zy_nokey M hx j hj)) (fun _ => br_f (by decide) ?_)
  exact zy_isKey (fun z => absurd z hx) (fun _ => br_t rfl (zy_isKey (fun z => absurd z hx) (fun _ => br_t rfl H)))
theorem zy_put {post : Int32 → SY → Prop} {mp : Nat → Option Int32} {n k cap : Nat} {kk : Nat → Nat} {v : Int32} (M : zy_M mp a_keys a_vals n kk) (hn : f_count = nI n) (hcap : f_capacity = nI cap) (hc16 : cap ≤ 16) (hnc : n ≤ cap) (hk : k < 65536)
    (H1 : (mp k).isSome = true → ∀ keys vals, zy_M (zt_up mp k v) keys vals n kk → post 6 (f_capacity, f_seed, f_bits, f_count, f_tn, f_proofLen, f_proofNodes, f_claim, f_ck, f_wn, f_nodes, f_claimed, keys, vals, a_dig, a_t, a_proof, a_proofStart, a_w, a_start))
    (H2 : ¬ (mp k).isSome = true → n < cap → ∀ keys vals kk', zy_M (zt_up mp k v) keys vals (n + 1) kk' → post 5 (f_capacity, f_seed, f_bits, nI (n + 1), f_tn, f_proofLen, f_proofNodes, f_claim, f_ck, f_wn, f_nodes, f_claimed, keys, vals, a_dig, a_t, a_proof, a_proofStart, a_w, a_start))
    (H3 : ¬ (mp k).isSome = true → ¬ n < cap → post 7 (f_capacity, f_seed, f_bits, f_count, f_tn, f_proofLen, f_proofNodes, f_claim, f_ck, f_wn, f_nodes, f_claimed, a_keys, a_vals, a_dig, a_t, a_proof, a_proofStart, a_w, a_start)) : wpY_put post (f_capacity, f_seed, f_bits, f_count, f_tn, f_proofLen, f_proofNodes, f_claim, f_ck, f_wn, f_nodes, f_claimed, a_keys, a_vals, a_dig, a_t, a_proof, a_proofStart, a_w, a_start) (nI k) v := by
  subst hcap hn
  have kb := zb_K_nI hk
  unfold wpY_put
  refine zy_find4 (n := n) M.1 rfl (fun j hj z => br_t (nI_pos' (by have := M.1; omega)) ?_) (fun z => br_f (by decide) ?_)
  · obtain ⟨e1, e2⟩ := zy_iskey M hk hj z
    have hs : (mp k).isSome = true := by rw [e2]; rfl
    have M' := zy_M_chg (v := v) M hj
    rw [e1] at M'
    have v16 : vp_in (nI j) 16 := vp_in_nI (by omega) (by omega)
    refine zy_isKey (fun _ => br_f zb_1ne0 (br_t (nI_lt (by omega) (by omega)) ⟨v16, nm_e ⟨v16, nm_e (br_t (nI_pos' (by omega)) (br_t (nI_pos' (by omega)) ?_))⟩⟩)) (fun z => absurd kb z)
    rw [nI_clamp (by omega)]
    exact H1 hs _ _ M'
  · have hs := zy_noval M z
    refine zy_isKey (fun _ => br_f zb_1ne0 ?_) (fun z => absurd kb z)
    by_cases hl : n < cap
    · have v16 : vp_in (nI n) 16 := vp_in_nI (by omega) (by omega)
      refine br_t (nI_lt hl (by omega)) ⟨v16, nm_e ⟨v16, nm_e (br_f (by decide) (nm_r (nI_1 n) (br_f (by decide) ?_)))⟩⟩
      rw [nI_clamp (by omega)]
      exact H2 hs hl _ _ _ (zy_M_add M (by omega) hk hs)
    · exact br_f (nI_nlt (by omega) (by omega)) (zy_isKey (fun _ => br_f zb_1ne0 (H3 hs hl)) (fun z => absurd kb z))
theorem zy_remove_bad {post : Int32 → SY → Prop} {mp : Nat → Option Int32} {n : Nat} {kk : Nat → Nat} {x : Int32} (M : zy_M mp a_keys a_vals n kk) (hn : f_count = nI n) (hx : ¬ zb_K x) (H : post (-1) (f_capacity, f_seed, f_bits, f_count, f_tn, f_proofLen, f_proofNodes, f_claim, f_ck, f_wn, f_nodes, f_claimed, a_keys, a_vals, a_dig, a_t, a_proof, a_proofStart, a_w, a_start)) : wpY_remove post (f_capacity, f_seed, f_bits, f_count, f_tn, f_proofLen, f_proofNodes, f_claim, f_ck, f_wn, f_nodes, f_claimed, a_keys, a_vals, a_dig, a_t, a_proof, a_proofStart, a_w, a_start) x := by
  unfold wpY_remove
  refine zy_find4 M.1 hn (fun j hj z => absurd z (zy_nokey M hx j hj)) (fun _ => br_f (by decide) ?_)
  exact zy_isKey (fun z => absurd z hx) (fun _ => br_t rfl H)
theorem zy_remove {post : Int32 → SY → Prop} {mp : Nat → Option Int32} {n k : Nat} {kk : Nat → Nat} (M : zy_M mp a_keys a_vals n kk) (hn : f_count = nI n) (hk : k < 65536)
    (H1 : (mp k).isSome = true → ∀ n' keys vals kk', n = n' + 1 → zy_M (zt_rm mp k) keys vals n' kk' → post 8 (f_capacity, f_seed, f_bits, nI n', f_tn, f_proofLen, f_proofNodes, f_claim, f_ck, f_wn, f_nodes, f_claimed, keys, vals, a_dig, a_t, a_proof, a_proofStart, a_w, a_start))
    (H0 : ¬ (mp k).isSome = true → post 9 (f_capacity, f_seed, f_bits, f_count, f_tn, f_proofLen, f_proofNodes, f_claim, f_ck, f_wn, f_nodes, f_claimed, a_keys, a_vals, a_dig, a_t, a_proof, a_proofStart, a_w, a_start)) : wpY_remove post (f_capacity, f_seed, f_bits, f_count, f_tn, f_proofLen, f_proofNodes, f_claim, f_ck, f_wn, f_nodes, f_claimed, a_keys, a_vals, a_dig, a_t, a_proof, a_proofStart, a_w, a_start) (nI k) := by
  subst hn
  have kb := zb_K_nI hk
  have h16 := M.1
  unfold wpY_remove
  refine zy_find4 (n := n) M.1 rfl (fun j hj z => br_t (nI_pos' (by omega)) ?_) (fun z => br_f (by decide) (zy_isKey (fun _ => br_f zb_1ne0 (H0 (zy_noval M z))) (fun z => absurd kb z)))
  obtain ⟨e1, e2⟩ := zy_iskey M hk hj z
  obtain ⟨n', rfl⟩ : ∃ m, n = m + 1 := ⟨n - 1, by omega⟩
  have M' := zy_M_rm M hj
  rw [e1] at M'
  have vn : vp_in (nI n') 16 := vp_in_nI (by omega) (by omega)
  have vj : vp_in (nI j) 16 := vp_in_nI (by omega) (by omega)
  refine nm_r (nI_pred n') ⟨vn, vj, nm_e ⟨vn, vj, nm_e ?_⟩⟩
  rw [nI_clamp (show n' < 2 ^ 31 by omega), nI_clamp (show j < 2 ^ 31 by omega)]
  exact H1 (by rw [e2]; rfl) n' _ _ _ rfl M'
theorem zy_get_bad {post : Int64 → Prop} {mp : Nat → Option Int32} {n : Nat} {kk : Nat → Nat} {x : Int32} (M : zy_M mp a_keys a_vals n kk) (hn : f_count = nI n) (hx : ¬ zb_K x) (H : post 4294967296) : wpY_get post (f_capacity, f_seed, f_bits, f_count, f_tn, f_proofLen, f_proofNodes, f_claim, f_ck, f_wn, f_nodes, f_claimed, a_keys, a_vals, a_dig, a_t, a_proof, a_proofStart, a_w, a_start) x := by
  unfold wpY_get
  exact zy_find4 M.1 hn (fun j hj z => absurd z (zy_nokey M hx j hj)) (fun _ => br_f (by decide) H)
theorem zy_get {post : Int64 → Prop} {mp : Nat → Option Int32} {n k : Nat} {kk : Nat → Nat} (M : zy_M mp a_keys a_vals n kk) (hn : f_count = nI n) (hk : k < 65536)
    (H1 : ∀ v, mp k = some v → post v.toInt64) (H0 : mp k = none → post 4294967296) : wpY_get post (f_capacity, f_seed, f_bits, f_count, f_tn, f_proofLen, f_proofNodes, f_claim, f_ck, f_wn, f_nodes, f_claimed, a_keys, a_vals, a_dig, a_t, a_proof, a_proofStart, a_w, a_start) (nI k) := by
  subst hn
  have h16 := M.1
  unfold wpY_get
  refine zy_find4 (n := n) M.1 rfl (fun j hj z => br_t (nI_pos' (by omega)) ⟨vp_in_nI (by omega) (by omega), ?_⟩) (fun z => br_f (by decide) (H0 ?_))
  · rw [nI_clamp (by omega)]
    exact H1 _ (zy_iskey M hk hj z).2
  · have := zy_noval M z
    cases hq : mp k with
    | none => rfl
    | some q => rw [hq] at this; exact absurd rfl this
end
end
section
/-! the verifier: what a fed node must be, and Y's walk -/
def zv_g0 (a : Int32) (l N : Nat) : Prop := a = 1 ∨ (∃ d, l ≤ d ∧ d ≤ 3 ∧ a = nI (2 + d)) ∨ (a = 0 ∧ N = 0)
def zv_g1 (a q ck : Int32) (l : Nat) : Prop := zb_K q ∧ zb_P q (nI l) = zb_P ck (nI l) ∧ (a = 1 ∨ zb_P q (a - 2) = q)
def zv_g2 (m : Int32) : Prop := zb_K m ∧ 2 ≤ zb_cnt (bt m) 16
theorem zv_two (l : Nat) : 2 + nI l = nI (2 + l) := by rw [show (2 : Int32) = nI 2 from rfl, nI_add]
theorem zv_g0_tree {a : Int32} {l N : Nat} {c A B : Prop} (hl : l ≤ 4) (hc : c ↔ N = 0) (hA : zv_g0 a l N → A) (hB : ¬ zv_g0 a l N → B) :
    (a = 1 → A) ∧ (¬ a = 1 → ((a < 2 + nI l → ((a = 0 → ((c → A) ∧ (¬ c → B))) ∧ (¬ a = 0 → B))) ∧ (¬ a < 2 + nI l → ((a ≤ 5 → A) ∧ (¬ a ≤ 5 → ((a = 0 → ((c → A) ∧ (¬ c → B))) ∧ (¬ a = 0 → B))))))) := by
  rw [zv_two]
  have hx5 : ∀ d, d ≤ 3 → nI (2 + d) ≤ 5 := fun d hd => nI_le (b := 5) (by omega) (by omega)
  refine br_c (fun h => hA (Or.inl h)) (fun h1 => br_c (fun h2 => br_c (fun h3 => br_c (fun h4 => hA (Or.inr (Or.inr ⟨h3, hc.mp h4⟩))) (fun h4 => hB ?_)) (fun h3 => hB ?_)) (fun h2 => br_c (fun h3 => hA ?_) (fun h3 => br_c (fun h4 => br_c (fun h5 => hA (Or.inr (Or.inr ⟨h4, hc.mp h5⟩))) (fun h5 => hB ?_)) (fun h4 => hB ?_))))
  · rintro (z | ⟨d, z1, z2, z3⟩ | ⟨_, z⟩)
    · exact h1 z
    · rw [z3, nI_ltI (by omega) (by omega)] at h2; omega
    · exact h4 (hc.mpr z)
  · rintro (z | ⟨d, z1, z2, z3⟩ | ⟨z, _⟩)
    · exact h1 z
    · rw [z3, nI_ltI (by omega) (by omega)] at h2; omega
    · exact h3 z
  · have h0 : ¬ a < 0 := by
      intro z
      apply h2
      have e := nI_toInt (n := 2 + l) (by omega)
      rw [Int32.lt_iff_toInt_lt] at z ⊢
      rw [show (0 : Int32).toInt = 0 from by decide] at z
      omega
    obtain ⟨j, hj, rfl⟩ := nI_of2 (M := 5) (n := 5) (by decide) h0 h3
    rw [nI_ltI (by omega) (by omega)] at h2
    exact Or.inr (Or.inl ⟨j - 2, by omega, by omega, congrArg nI (by omega)⟩)
  · rintro (z | ⟨d, z1, z2, z3⟩ | ⟨_, z⟩)
    · exact h1 z
    · rw [z3] at h3; exact h3 (hx5 d z2)
    · exact h5 (hc.mpr z)
  · rintro (z | ⟨d, z1, z2, z3⟩ | ⟨z, _⟩)
    · exact h1 z
    · rw [z3] at h3; exact h3 (hx5 d z2)
    · exact h4 z
theorem zv_br_le {x : Int32} {A B : Prop} {a b : Nat} (ha : a < 2 ^ 31) (hb : b < 2 ^ 31) (hx : x = nI b) (f : a ≤ b → A) (g : ¬ a ≤ b → B) : (nI a ≤ x → A) ∧ (¬ nI a ≤ x → B) := by
  subst hx
  rw [nI_leI ha hb]
  exact ⟨f, g⟩
/-- a of a good node against small numbers -/
theorem zv_g0_le0 {a : Int32} {l N : Nat} (g : zv_g0 a l N) : a ≤ 0 ↔ a = 0 := by
  rcases g with rfl | ⟨d, _, hd, rfl⟩ | ⟨rfl, _⟩
  · decide
  · rw [show (0 : Int32) = nI 0 from rfl, nI_leI (by omega) (by omega), nI_eq (by omega) (by omega)]; omega
  · decide
theorem zv_g0_le1 {a : Int32} {l N : Nat} (g : zv_g0 a l N) : a ≤ 1 ↔ (a = 0 ∨ a = 1) := by
  rcases g with rfl | ⟨d, _, hd, rfl⟩ | ⟨rfl, _⟩
  · decide
  · rw [show (0 : Int32) = nI 0 from rfl, show (1 : Int32) = nI 1 from rfl, nI_leI (by omega) (by omega), nI_eq (by omega) (by omega), nI_eq (by omega) (by omega)]; omega
  · decide
theorem zv_g0_2le {a : Int32} {l N : Nat} (g : zv_g0 a l N) : 2 ≤ a ↔ ¬ (a = 0 ∨ a = 1) := by
  rcases g with rfl | ⟨d, _, hd, rfl⟩ | ⟨rfl, _⟩
  · decide
  · rw [show (0 : Int32) = nI 0 from rfl, show (1 : Int32) = nI 1 from rfl, show (2 : Int32) = nI 2 from rfl, nI_leI (by omega) (by omega), nI_eq (by omega) (by omega), nI_eq (by omega) (by omega)]; omega
  · decide
def zv_rej (a q m ck : Int32) (l N hv : Nat) : Prop := (1 ≤ hv ∧ ¬ zv_g0 a l N) ∨ (2 ≤ hv ∧ zv_g0 a l N ∧ ¬ a = 0 ∧ ¬ zv_g1 a q ck l) ∨ (3 ≤ hv ∧ zv_g0 a l N ∧ ¬ a = 0 ∧ ¬ a = 1 ∧ ¬ zv_g2 m)
def zv_ok (a q m ck : Int32) (l N hv : Nat) : Prop := (1 ≤ hv → zv_g0 a l N) ∧ (2 ≤ hv → a = 0 ∨ zv_g1 a q ck l) ∧ (3 ≤ hv → a = 0 ∨ a = 1 ∨ zv_g2 m)
section
variable {f_capacity f_seed f_bits f_count f_tn f_proofLen f_proofNodes f_claim f_ck f_wn f_nodes f_claimed : Int32} {a_keys a_vals a_dig a_t a_proof a_proofStart a_w a_start : Nat → Int32}
variable {J : Int32 → Int32 → Int32 → Int32 → Int32 → Int32 → Int32 → Int32 → Int32 → Int32 → Int32 → Int32 → Int32 → Int32 → Int32 → (Nat → Int32) → (Nat → Int32) → (Nat → Int32) → (Nat → Int32) → (Nat → Int32) → (Nat → Int32) → (Nat → Int32) → (Nat → Int32) → Prop}
theorem zy_w231 {post : Int32 → SY → Prop} {x1 x4 a q m x9 x10 x12 : Int32} {l N hv : Nat} (hv31 : hv < 100) (g0 : 1 ≤ hv → zv_g0 a l N) (K : (3 ≤ hv → a = 0 ∨ a = 1 ∨ zv_g2 m) → wY_walk_260 post J x1 (nI N) x4 (nI hv) a q m x9 x10 x12 f_capacity f_seed f_bits f_count f_tn f_proofLen f_proofNodes f_claim f_ck f_wn f_nodes f_claimed a_keys a_vals a_dig a_t a_proof a_proofStart a_w a_start)
    (R : (3 ≤ hv ∧ zv_g0 a l N ∧ ¬ a = 0 ∧ ¬ a = 1 ∧ ¬ zv_g2 m) → post 4 (f_capacity, f_seed, f_bits, f_count, f_tn, f_proofLen, f_proofNodes, f_claim, f_ck, f_wn, f_nodes, f_claimed, a_keys, a_vals, a_dig, a_t, a_proof, a_proofStart, a_w, a_start)) : wY_walk_231 post J x1 (nI N) x4 (nI hv) a q m x9 x10 (nI (zb_cnt (bt m) 16)) x12 f_capacity f_seed f_bits f_count f_tn f_proofLen f_proofNodes f_claim f_ck f_wn f_nodes f_claimed a_keys a_vals a_dig a_t a_proof a_proofStart a_w a_start := by
  have hcm := zb_cnt_le (bt m) 16
  refine br_c (fun h => K (fun z => ?_)) (fun h => ?_)
  · rw [show (2 : Int32) = nI 2 from rfl, nI_leI (by omega) (by omega)] at h; omega
  · rw [show (2 : Int32) = nI 2 from rfl, nI_leI (by omega) (by omega)] at h
    have g := g0 (by omega)
    refine br_c (fun h1 => K (fun _ => ?_)) (fun h1 => ?_)
    · rcases (zv_g0_le1 g).mp h1 with z | z
      · exact Or.inl z
      · exact Or.inr (Or.inl z)
    · rw [zv_g0_le1 g] at h1
      refine zy_isKey (fun z => br_f zb_1ne0 (br_c (fun z2 => K (fun _ => Or.inr (Or.inr ⟨z, ?_⟩))) (fun z2 => R ⟨by omega, g, fun y => h1 (Or.inl y), fun y => h1 (Or.inr y), fun y => z2 ?_⟩))) (fun z => br_t rfl (R ⟨by omega, g, fun y => h1 (Or.inl y), fun y => h1 (Or.inr y), fun y => z y.1⟩))
      · rw [show (2 : Int32) = nI 2 from rfl, nI_leI (by omega) (by omega)] at z2; exact z2
      · rw [show (2 : Int32) = nI 2 from rfl, nI_leI (by omega) (by omega)]; exact y.2
theorem zy_w125 {post : Int32 → SY → Prop} {x1 x4 a q m x10 x12 : Int32} {l N hv : Nat} (hl : l ≤ 4) (hN : N < 100) (hv31 : hv < 100) (K : zv_ok a q m f_ck l N hv → wY_walk_260 post J x1 (nI N) x4 (nI hv) a q m (a - 2) x10 x12 f_capacity f_seed f_bits f_count f_tn f_proofLen f_proofNodes f_claim f_ck f_wn f_nodes f_claimed a_keys a_vals a_dig a_t a_proof a_proofStart a_w a_start)
    (R : zv_rej a q m f_ck l N hv → post 4 (f_capacity, f_seed, f_bits, f_count, f_tn, f_proofLen, f_proofNodes, f_claim, f_ck, f_wn, f_nodes, f_claimed, a_keys, a_vals, a_dig, a_t, a_proof, a_proofStart, a_w, a_start)) : wY_walk_125 post J x1 (nI l) (nI N) x4 (nI hv) a q m (a - 2) x10 (nI (zb_cnt (bt m) 16)) x12 f_capacity f_seed f_bits f_count f_tn f_proofLen f_proofNodes f_claim f_ck f_wn f_nodes f_claimed a_keys a_vals a_dig a_t a_proof a_proofStart a_w a_start := by
  have K163 : (1 ≤ hv → zv_g0 a l N) → wY_walk_163 post J x1 (nI l) (nI N) x4 (nI hv) a q m (a - 2) x10 (nI (zb_cnt (bt m) 16)) x12 f_capacity f_seed f_bits f_count f_tn f_proofLen f_proofNodes f_claim f_ck f_wn f_nodes f_claimed a_keys a_vals a_dig a_t a_proof a_proofStart a_w a_start := by
    intro g0
    have K231 : (2 ≤ hv → a = 0 ∨ zv_g1 a q f_ck l) → wY_walk_231 post J x1 (nI N) x4 (nI hv) a q m (a - 2) x10 (nI (zb_cnt (bt m) 16)) x12 f_capacity f_seed f_bits f_count f_tn f_proofLen f_proofNodes f_claim f_ck f_wn f_nodes f_claimed a_keys a_vals a_dig a_t a_proof a_proofStart a_w a_start := by
      intro g1
      exact zy_w231 hv31 g0 (fun g2 => K ⟨g0, g1, g2⟩) (fun z => R (Or.inr (Or.inr z)))
    refine br_c (fun h => ?_) (fun h => ?_)
    · have h' : hv ≤ 1 := by rw [show (1 : Int32) = nI 1 from rfl, nI_leI (by omega) (by omega)] at h; exact h
      exact br_t h (K231 (fun z => by omega))
    · have h' : ¬ hv ≤ 1 := by rw [show (1 : Int32) = nI 1 from rfl, nI_leI (by omega) (by omega)] at h; exact h
      have g := g0 (by omega)
      refine br_c (fun h1 => ?_) (fun h1 => ?_)
      · rw [zv_g0_le0 g] at h1
        refine br_f h (br_t ((zv_g0_le1 g).mpr (Or.inl h1)) (K231 (fun _ => Or.inl h1)))
      · rw [zv_g0_le0 g] at h1
        have bad : ¬ zv_g1 a q f_ck l → post 4 (f_capacity, f_seed, f_bits, f_count, f_tn, f_proofLen, f_proofNodes, f_claim, f_ck, f_wn, f_nodes, f_claimed, a_keys, a_vals, a_dig, a_t, a_proof, a_proofStart, a_w, a_start) := fun z => R (Or.inr (Or.inl ⟨by omega, g, h1, z⟩))
        refine zy_isKey (fun z => br_f zb_1ne0 (zy_prefix (zy_prefix (br_c (fun z2 => ?_) (fun z2 => bad (fun y => z2 y.2.1)))))) (fun z => br_t rfl (bad (fun y => z y.1)))
        refine br_f h (br_c (fun z3 => K231 (fun _ => Or.inr ⟨z, z2, Or.inl ?_⟩)) (fun z3 => zy_prefix (br_c (fun z4 => K231 (fun _ => Or.inr ⟨z, z2, Or.inr z4⟩)) (fun z4 => bad (fun y => ?_)))))
        · rcases (zv_g0_le1 g).mp z3 with y | y
          · exact absurd y h1
          · exact y
        · rcases y.2.2 with y | y
          · exact z3 ((zv_g0_le1 g).mpr (Or.inr y))
          · exact z4 y
  refine br_c (fun h => K163 (fun z => ?_)) (fun h => ?_)
  · rw [show (0 : Int32) = nI 0 from rfl, nI_leI (by omega) (by omega)] at h; omega
  · have h' : 1 ≤ hv := by rw [show (0 : Int32) = nI 0 from rfl, nI_leI (by omega) (by omega)] at h; omega
    refine zv_g0_tree (c := nI N ≤ 0) hl ?_ (fun g => K163 (fun _ => g)) (fun g => R (Or.inl ⟨h', g⟩))
    rw [show (0 : Int32) = nI 0 from rfl, nI_leI (by omega) (by omega)]; omega
theorem zy_w260 {post : Int32 → SY → Prop} {e a q m : Int32} {l N hv p len n : Nat} (hN : N < 5) (hv31 : hv < 100) (hl : len ≤ 19) (hp : p + len ≤ 100) (hn : n < 16) (hs : a_start N = nI p) (g : len ≤ hv → zv_g0 a l N)
    (Mo : ¬ len ≤ hv → post 1 (f_capacity, f_seed, f_bits, f_count, f_tn, f_proofLen, f_proofNodes, f_claim, f_ck, f_wn, f_nodes, f_claimed, a_keys, a_vals, a_dig, a_t, a_proof, a_proofStart, a_w, a_start))
    (Fx : len ≤ hv → ¬ zh_H f_seed f_bits (zy_seg a_w p len) = e → ∀ t, post 4 (f_capacity, f_seed, f_bits, f_count, nI len, f_proofLen, f_proofNodes, f_claim, f_ck, f_wn, nI (N + 1), f_claimed, a_keys, a_vals, a_dig, t, a_proof, a_proofStart, a_w, upd a_start (N + 1) (nI (p + len))))
    (F0 : len ≤ hv → zh_H f_seed f_bits (zy_seg a_w p len) = e → a = 0 → ∀ t, post 3 (f_capacity, f_seed, f_bits, f_count, nI len, f_proofLen, f_proofNodes, f_claim, f_ck, f_wn, nI (N + 1), f_claimed, a_keys, a_vals, a_dig, t, a_proof, a_proofStart, a_w, upd a_start (N + 1) (nI (p + len))))
    (F1 : len ≤ hv → zh_H f_seed f_bits (zy_seg a_w p len) = e → a = 1 → ∀ t, post (if q = f_ck then 2 else 3) (f_capacity, f_seed, f_bits, f_count, nI len, f_proofLen, f_proofNodes, f_claim, f_ck, f_wn, nI (N + 1), f_claimed, a_keys, a_vals, a_dig, t, a_proof, a_proofStart, a_w, upd a_start (N + 1) (nI (p + len))))
    (F2 : len ≤ hv → zh_H f_seed f_bits (zy_seg a_w p len) = e → ¬ a = 0 → ¬ a = 1 → ¬ (q = zb_P f_ck (a - 2) ∧ bt m n = true) → ∀ t, post 3 (f_capacity, f_seed, f_bits, f_count, nI len, f_proofLen, f_proofNodes, f_claim, f_ck, f_wn, nI (N + 1), f_claimed, a_keys, a_vals, a_dig, t, a_proof, a_proofStart, a_w, upd a_start (N + 1) (nI (p + len))))
    (F3 : len ≤ hv → zh_H f_seed f_bits (zy_seg a_w p len) = e → ¬ a = 0 → ¬ a = 1 → q = zb_P f_ck (a - 2) → bt m n = true → p + 3 + zb_cnt (bt m) n < 100 ∧ ∀ t, J (a_w (p + 3 + zb_cnt (bt m) n)) (a - 2 + 1) (nI (N + 1)) f_capacity f_seed f_bits f_count (nI len) f_proofLen f_proofNodes f_claim f_ck f_wn (nI (N + 1)) f_claimed a_keys a_vals a_dig t a_proof a_proofStart a_w (upd a_start (N + 1) (nI (p + len)))) :
    wY_walk_260 post J e (nI N) (nI p) (nI hv) a q m (a - 2) (nI n) (nI len) f_capacity f_seed f_bits f_count f_tn f_proofLen f_proofNodes f_claim f_ck f_wn f_nodes f_claimed a_keys a_vals a_dig a_t a_proof a_proofStart a_w a_start := by
  have e1 : nI N + 1 = nI (N + 1) := nI_1 N
  unfold wY_walk_260
  rw [e1, nI_add, nI_clamp (show N + 1 < 2 ^ 31 by omega)]
  refine zv_br_le (by omega) (by omega) rfl (fun h => nm_e ⟨vp_in_nI (by omega) (by omega), nm_e ?_⟩) Mo
  have gg := g h
  refine zy_hashOf (j := N) (q0 := p) (len := len) (by omega) ((pk_un (by omega)).trans hs) pk_us (by omega) hp ?_
  intro t _
  refine br_c (fun h1 => ?_) (fun h1 => Fx h h1 t)
  refine br_c (fun h2 => zy_prefix (br_c (fun h3 => ?_) (fun h3 => F2 h h1 (fun z => (zv_g0_2le gg).mp h2 (Or.inl z)) (fun z => (zv_g0_2le gg).mp h2 (Or.inr z)) (fun z => h3 z.1) t))) (fun h2 => br_c (fun h3 => ?_) (fun h3 => ?_))
  · have n0 : ¬ a = 0 := fun z => (zv_g0_2le gg).mp h2 (Or.inl z)
    have n1 : ¬ a = 1 := fun z => (zv_g0_2le gg).mp h2 (Or.inr z)
    cases hb : bt m n with
    | false => exact br_t (c := zb_B m (nI n) = 0) (zb_B_f (by omega) hb) (F2 h h1 n0 n1 (fun z => by rw [hb] at z; exact absurd z.2 (by decide)) t)
    | true =>
      obtain ⟨k1, k2⟩ := F3 h h1 n0 n1 h3 hb
      refine br_f (c := zb_B m (nI n) = 0) (by rw [zb_B_t (by omega) hb]; exact zb_1ne0) (zy_ones (by omega) ?_)
      rw [show nI p + 3 = nI (p + 3) from nI_add p 3, nI_add, nI_clamp (by omega)]
      exact ⟨vp_in_nI k1 (by omega), nm_e (nm_e (nm_e (k2 t)))⟩
  · have F1 := F1 h h1 h3 t
    refine br_c (fun h4 => ?_) (fun h4 => ?_)
    · rw [if_pos h4] at F1; exact F1
    · rw [if_neg h4] at F1; exact F1
  · refine F0 h h1 ?_ t
    rw [zv_g0_2le gg] at h2
    rcases Classical.not_not.mp h2 with z | z
    · exact z
    · exact absurd z h3
end
end
section
/-! the fed nodes: ghosts S (starts), E (expected hashes), L (levels); Y's walk over them -/
def zv_n (ck d : Nat) : Nat := ck / 16 ^ (3 - d) % 16
def zv_len (w : Nat → Int32) (p : Nat) : Nat := if w p = 0 then 1 else if w p = 1 then 3 else 3 + zb_cnt (bt (w (p + 2))) 16
def zv_pass (s b : Int32) (ck : Nat) (w : Nat → Int32) (p l : Nat) (e : Int32) (p' l' : Nat) (e' : Int32) : Prop :=
  ∃ d, l ≤ d ∧ d ≤ 3 ∧ w p = nI (2 + d) ∧ zv_g1 (w p) (w (p + 1)) (nI ck) l ∧ zv_g2 (w (p + 2)) ∧ p' = p + (3 + zb_cnt (bt (w (p + 2))) 16) ∧ zh_H s b (zy_seg w p (3 + zb_cnt (bt (w (p + 2))) 16)) = e ∧
    w (p + 1) = zb_P (nI ck) (nI d) ∧ bt (w (p + 2)) (zv_n ck d) = true ∧ e' = w (p + 3 + zb_cnt (bt (w (p + 2))) (zv_n ck d)) ∧ l' = d + 1
def zv_seq (s b : Int32) (ck : Nat) (claim : Int32) (w : Nat → Int32) (wn N : Nat) (S : Nat → Nat) (E : Nat → Int32) (L : Nat → Nat) : Prop :=
  S 0 = 0 ∧ E 0 = claim ∧ L 0 = 0 ∧ N ≤ 4 ∧ S N ≤ wn ∧ ∀ j, j < N → zv_pass s b ck w (S j) (L j) (E j) (S (j + 1)) (L (j + 1)) (E (j + 1))
def zv_more (s : Int32) (ck : Nat) (w : Nat → Int32) (p hv l N : Nat) (need running : Int32) : Prop :=
  zv_ok (w p) (w (p + 1)) (w (p + 2)) (nI ck) l N hv ∧ (1 ≤ hv → ¬ w p = 0) ∧ (3 ≤ hv → ¬ w p = 1 ∧ hv < 3 + zb_cnt (bt (w (p + 2))) 16) ∧ running = (zy_seg w p hv).foldl zh_mx (s + 1) ∧ (1 ≤ hv → hv ≤ 2 → need = 3) ∧ (3 ≤ hv → need = nI (3 + zb_cnt (bt (w (p + 2))) 16))
def zv_bad (s b : Int32) (ck : Nat) (w : Nat → Int32) (p hv : Nat) (e : Int32) (l N : Nat) : Prop :=
  (zv_rej (w p) (w (p + 1)) (w (p + 2)) (nI ck) l N hv ∧ hv ≤ 3) ∨ (zv_ok (w p) (w (p + 1)) (w (p + 2)) (nI ck) l N hv ∧ hv = zv_len w p ∧ ¬ zh_H s b (zy_seg w p hv) = e)
def zv_fin (s b : Int32) (ck : Nat) (w : Nat → Int32) (p hv : Nat) (e : Int32) (l N : Nat) (st : Int32) : Prop :=
  zv_ok (w p) (w (p + 1)) (w (p + 2)) (nI ck) l N hv ∧ hv = zv_len w p ∧ zh_H s b (zy_seg w p hv) = e ∧
    ((w p = 0 ∧ st = 3) ∨ (w p = 1 ∧ st = if w (p + 1) = nI ck then 2 else 3) ∨ ∃ d, l ≤ d ∧ d ≤ 3 ∧ w p = nI (2 + d) ∧ (¬ (w (p + 1) = zb_P (nI ck) (nI d) ∧ bt (w (p + 2)) (zv_n ck d) = true)) ∧ st = 3)
def zv_C (s b : Int32) (ck : Nat) (w : Nat → Int32) (p hv : Nat) (e : Int32) (l N : Nat) (st need running : Int32) : Prop :=
  (st = 1 ∧ zv_more s ck w p hv l N need running) ∨ (st = 4 ∧ zv_bad s b ck w p hv e l N) ∨ zv_fin s b ck w p hv e l N st
theorem zv_len_ge (w : Nat → Int32) (p : Nat) : 1 ≤ zv_len w p ∧ zv_len w p ≤ 19 := by
  unfold zv_len
  have := zb_cnt_le (bt (w (p + 2))) 16
  split
  · omega
  · split <;> omega
theorem zv_n_lt (ck d : Nat) : zv_n ck d < 16 := Nat.mod_lt _ (by omega)
theorem zv_D {ck d : Nat} (hk : ck < 65536) (hd : d ≤ 3) : zb_D (nI ck) (nI d) = nI (zv_n ck d) := by
  have := zb_D_nI (h := 3 - d) hk (by omega)
  rw [show 3 - (3 - d) = d by omega] at this
  exact this
theorem zv_am2 (d : Nat) : nI (2 + d) - 2 = nI d := by
  rw [show (2 : Int32) = nI 2 from rfl, pk_sub (by omega)]; exact congrArg nI (by omega)
theorem zv_a01 {d : Nat} (hd : d ≤ 3) : (¬ nI (2 + d) = 0) ∧ ¬ nI (2 + d) = 1 := by
  rw [show (0 : Int32) = nI 0 from rfl, show (1 : Int32) = nI 1 from rfl, nI_eq (by omega) (by omega), nI_eq (by omega) (by omega)]; omega
theorem zv_len_b {w : Nat → Int32} {p d : Nat} (hd : d ≤ 3) (h : w p = nI (2 + d)) : zv_len w p = 3 + zb_cnt (bt (w (p + 2))) 16 := by
  unfold zv_len
  rw [h, if_neg (zv_a01 hd).1, if_neg (zv_a01 hd).2]
theorem zv_seq_b {s b claim : Int32} {ck wn N : Nat} {w : Nat → Int32} {S : Nat → Nat} {E : Nat → Int32} {L : Nat → Nat} (Q : zv_seq s b ck claim w wn N S E L) : ∀ j, j ≤ N → j ≤ L j ∧ L j ≤ 4 ∧ S j ≤ 19 * j := by
  intro j
  induction j with
  | zero => intro _; rw [Q.1, Q.2.2.1]; omega
  | succ j ih =>
    intro hj
    have i := ih (by omega)
    obtain ⟨d, d1, d2, _, _, _, d3, _, _, _, _, d4⟩ := Q.2.2.2.2.2 j (by omega)
    have := zb_cnt_le (bt (w (S j + 2))) 16
    omega
theorem zv_seq_m {s b claim : Int32} {ck wn N : Nat} {w : Nat → Int32} {S : Nat → Nat} {E : Nat → Int32} {L : Nat → Nat} (Q : zv_seq s b ck claim w wn N S E L) : ∀ d j, j + d = N → S j ≤ S N := by
  intro d
  induction d with
  | zero => intro j hj; have : j = N := by omega
            subst this; exact Nat.le_refl _
  | succ d ih =>
    intro j hj
    have i := ih (j + 1) (by omega)
    obtain ⟨_, _, _, _, _, _, d3, _⟩ := Q.2.2.2.2.2 j (by omega)
    omega
theorem zv_ok_rej {a q m ck : Int32} {l N hv : Nat} (h : zv_ok a q m ck l N hv) (r : zv_rej a q m ck l N hv) : False := by
  obtain ⟨h0, h1, h2⟩ := h
  rcases r with ⟨r1, r2⟩ | ⟨r1, _, r2, r3⟩ | ⟨r1, _, r2, r3, r4⟩
  · exact r2 (h0 r1)
  · rcases h1 r1 with z | z
    · exact r2 z
    · exact r3 z
  · rcases h2 r1 with z | z | z
    · exact r2 z
    · exact r3 z
    · exact r4 z
theorem zv_ok_pass {a q m ck : Int32} {l N hv d : Nat} (d1 : l ≤ d) (d2 : d ≤ 3) (h : a = nI (2 + d)) (g1 : zv_g1 a q ck l) (g2 : zv_g2 m) : zv_ok a q m ck l N hv :=
  ⟨fun _ => Or.inr (Or.inl ⟨d, d1, d2, h⟩), fun _ => Or.inr g1, fun _ => Or.inr (Or.inr g2)⟩
section
variable {f_capacity f_seed f_bits f_count f_tn f_proofLen f_proofNodes f_claim f_ck f_wn f_nodes f_claimed : Int32} {a_keys a_vals a_dig a_t a_proof a_proofStart a_w a_start : Nat → Int32}
/-- one round of the walk, up to the check -/
theorem zy_walk_h {post : Int32 → SY → Prop} {m j p wn l ck : Nat} {e : Int32} (hj : j < 5) (hcl : ¬ f_claimed = 0) (hwn : f_wn = nI wn) (hck : f_ck = nI ck) (hs : a_start j = nI p) (hp : p ≤ wn) (hp80 : p ≤ 77) (hw : wn < 100)
    (K : ∀ n, n < 16 → zb_D (nI ck) (a_w p - 2) = nI n → wY_walk_125 post (wY_walk_14 post m) e (nI l) (nI j) (nI p) (nI (wn - p)) (a_w p) (a_w (p + 1)) (a_w (p + 2)) (a_w p - 2) (nI n) (nI (zb_cnt (bt (a_w (p + 2))) 16)) (nI (zv_len a_w p)) f_capacity f_seed f_bits f_count f_tn f_proofLen f_proofNodes f_claim f_ck f_wn f_nodes f_claimed a_keys a_vals a_dig a_t a_proof a_proofStart a_w a_start) :
    wY_walk_14 post (m + 1) e (nI l) (nI j) f_capacity f_seed f_bits f_count f_tn f_proofLen f_proofNodes f_claim f_ck f_wn f_nodes f_claimed a_keys a_vals a_dig a_t a_proof a_proofStart a_w a_start := by
  subst hwn hck
  obtain ⟨n, hn, hd⟩ := zb_D_in (nI ck) (a_w p - 2)
  have K := K n hn hd
  have hcm := zb_cnt_le (bt (a_w (p + 2))) 16
  refine br_f (nI_ge (a := j) (b := 5) (by omega) (by omega)) (br_f hcl ⟨vp_in_nI (by omega) (by omega), nm_r (e' := nI p) (by rw [nI_clamp (by omega)]; exact hs) (nm_r (pk_sub hp) ⟨vp_in_nI (by omega) (by omega), ?_⟩)⟩)
  rw [nI_clamp (by omega), show nI p + 1 = nI (p + 1) from nI_1 p, show nI p + 2 = nI (p + 2) from nI_add p 2, nI_clamp (by omega), nI_clamp (by omega)]
  refine nm_e ⟨vp_in_nI (by omega) (by omega), nm_e ⟨vp_in_nI (by omega) (by omega), nm_e (nm_e (zy_digit ?_))⟩⟩
  rw [hd]
  refine zy_ones (n := 16) (by omega) ?_
  unfold zv_len at K
  refine br_c (fun h => ?_) (fun h => br_c (fun h2 => ?_) (fun h2 => ?_))
  · rw [if_pos h] at K; exact K
  · rw [if_neg h, if_pos h2] at K; exact K
  · rw [if_neg h, if_neg h2] at K
    rw [show 3 + nI (zb_cnt (bt (a_w (p + 2))) 16) = nI (3 + zb_cnt (bt (a_w (p + 2))) 16) from nI_add 3 _]
    exact K
theorem zy_walk_l {post : Int32 → SY → Prop} {ck wn N : Nat} {claim st need running : Int32} {S : Nat → Nat} {E : Nat → Int32} {L : Nat → Nat} (hk : ck < 65536) (hcl : ¬ f_claimed = 0) (hwn : f_wn = nI wn) (hck : f_ck = nI ck) (hw : wn < 80)
    (Q : zv_seq f_seed f_bits ck claim a_w wn N S E L) (C : zv_C f_seed f_bits ck a_w (S N) (wn - S N) (E N) (L N) N st need running)
    (H : ∀ tn nn t start, (∀ i, i ≤ N → start i = nI (S i)) → ((st = 2 ∨ st = 3) → start (N + 1) = nI wn ∧ nn = nI (N + 1)) → post st (f_capacity, f_seed, f_bits, f_count, tn, f_proofLen, f_proofNodes, f_claim, f_ck, f_wn, nn, f_claimed, a_keys, a_vals, a_dig, t, a_proof, a_proofStart, a_w, start)) :
    ∀ d j tn nn t start, j + d = N → (∀ i, i ≤ j → start i = nI (S i)) → wY_walk_14 post (d + 1) (E j) (nI (L j)) (nI j) f_capacity f_seed f_bits f_count tn f_proofLen f_proofNodes f_claim f_ck f_wn nn f_claimed a_keys a_vals a_dig t a_proof a_proofStart a_w start := by
  have hN4 := Q.2.2.2.1
  have hSN := Q.2.2.2.2.1
  intro d
  induction d with
  | zero =>
    intro j tn nn t start hj hst
    have : j = N := by omega
    subst this
    obtain ⟨b1, b2, b3⟩ := zv_seq_b Q j (Nat.le_refl _)
    obtain ⟨l1, l2⟩ := zv_len_ge a_w (S j)
    refine zy_walk_h (ck := ck) (wn := wn) (p := S j) (by omega) hcl hwn hck (hst j (Nat.le_refl _)) hSN (by omega) (by omega) ?_
    intro n hn hd
    have hst' : ∀ x i, i ≤ j → upd start (j + 1) x i = nI (S i) := fun x i hi => (pk_un (by omega)).trans (hst i hi)
    rcases C with ⟨rfl, C⟩ | ⟨rfl, C⟩ | C
    · obtain ⟨c1, c2, c3, _⟩ := C
      have hlt : ¬ zv_len a_w (S j) ≤ wn - S j := by
        intro z
        unfold zv_len at z l1
        by_cases h1 : 1 ≤ wn - S j
        · rw [if_neg (c2 h1)] at z
          by_cases h3 : 3 ≤ wn - S j
          · rw [if_neg (c3 h3).1] at z
            have := (c3 h3).2
            omega
          · split at z <;> omega
        · omega
      refine zy_w125 b2 (by omega) (by omega) (fun _ => ?_) (fun r => (zv_ok_rej c1 (by rw [hck] at r; exact r)).elim)
      exact zy_w260 (l := L j) (by omega) (by omega) l2 (by omega) hn (hst j (Nat.le_refl _)) (fun z => absurd z hlt) (fun _ => H _ _ _ _ hst (fun z => absurd z (by decide))) (fun z => absurd z hlt) (fun z => absurd z hlt) (fun z => absurd z hlt) (fun z => absurd z hlt) (fun z => absurd z hlt)
    · have H4 : ∀ tn nn t start, (∀ i, i ≤ j → start i = nI (S i)) → post 4 (f_capacity, f_seed, f_bits, f_count, tn, f_proofLen, f_proofNodes, f_claim, f_ck, f_wn, nn, f_claimed, a_keys, a_vals, a_dig, t, a_proof, a_proofStart, a_w, start) := fun tn nn t start h => H tn nn t start h (fun z => absurd z (by decide))
      refine zy_w125 b2 (by omega) (by omega) (fun k => ?_) (fun _ => H4 _ _ _ _ hst)
      rcases C with C | ⟨c1, c2, c3⟩
      · exact (zv_ok_rej k (by rw [hck]; exact C.1)).elim
      · rw [c2] at c3
        refine zy_w260 (l := L j) (by omega) (by omega) l2 (by omega) hn (hst j (Nat.le_refl _)) (fun z => c1.1 (by omega)) (fun z => absurd (by omega) z) (fun _ _ t => H4 _ _ _ _ (hst' _)) (fun _ z => absurd z c3) (fun _ z => absurd z c3) (fun _ z => absurd z c3) (fun _ z => absurd z c3)
    · obtain ⟨c1, c2, c3, c4⟩ := C
      rw [c2] at c3
      have H' : ∀ t, post st (f_capacity, f_seed, f_bits, f_count, nI (zv_len a_w (S j)), f_proofLen, f_proofNodes, f_claim, f_ck, f_wn, nI (j + 1), f_claimed, a_keys, a_vals, a_dig, t, a_proof, a_proofStart, a_w, upd start (j + 1) (nI (S j + zv_len a_w (S j)))) := fun t => H _ _ _ _ (hst' _) (fun _ => ⟨by rw [pk_us]; exact congrArg nI (by omega), rfl⟩)
      refine zy_w125 b2 (by omega) (by omega) (fun k => ?_) (fun r => (zv_ok_rej c1 (by rw [hck] at r; exact r)).elim)
      refine zy_w260 (l := L j) (by omega) (by omega) l2 (by omega) hn (hst j (Nat.le_refl _)) (fun z => c1.1 (by omega)) (fun z => absurd (by omega) z) (fun _ z => absurd c3 z) ?_ ?_ ?_ ?_
      · intro _ _ a0 t
        rcases c4 with ⟨_, z2⟩ | ⟨z1, _⟩ | ⟨d, _, d2, z1, _⟩
        · rw [← z2]; exact H' t
        · rw [z1] at a0; exact absurd a0 zb_1ne0
        · rw [z1] at a0; exact absurd a0 (zv_a01 d2).1
      · intro _ _ a1 t
        rcases c4 with ⟨z1, _⟩ | ⟨_, z2⟩ | ⟨d, _, d2, z1, _⟩
        · rw [z1] at a1; exact absurd a1 zb_0ne1
        · have z2' := z2
          rw [← hck] at z2'
          rw [← z2']; exact H' t
        · rw [z1] at a1; exact absurd a1 (zv_a01 d2).2
      · intro _ _ a0 a1 _ t
        rcases c4 with ⟨z1, _⟩ | ⟨z1, _⟩ | ⟨d, _, d2, z1, _, z2⟩
        · exact absurd z1 a0
        · exact absurd z1 a1
        · rw [← z2]; exact H' t
      · intro _ _ a0 a1 x1 x2
        rcases c4 with ⟨z1, _⟩ | ⟨z1, _⟩ | ⟨d, _, d2, z1, z2, _⟩
        · exact absurd z1 a0
        · exact absurd z1 a1
        · rw [z1, zv_am2, zv_D hk d2, nI_eq (by have := zv_n_lt ck d; omega) (by omega)] at hd
          rw [z1, zv_am2, hck] at x1
          exact absurd ⟨x1, by rw [hd]; exact x2⟩ z2
  | succ d ih =>
    intro j tn nn t start hj hst
    obtain ⟨b1, b2, b3⟩ := zv_seq_b Q j (by omega)
    obtain ⟨l1, l2⟩ := zv_len_ge a_w (S j)
    have hm := zv_seq_m Q d (j + 1) (by omega)
    obtain ⟨x, x1, x2, x3, x4, x5, x6, x7, x8, x9, x10, x11⟩ := Q.2.2.2.2.2 j (by omega)
    have hlen := zv_len_b x2 x3
    rw [← hlen] at x6 x7
    have hc := zb_cnt_lt (bt (a_w (S j + 2))) (zv_n_lt ck x) x9
    have ho : zv_ok (a_w (S j)) (a_w (S j + 1)) (a_w (S j + 2)) (nI ck) (L j) j (wn - S j) := zv_ok_pass x1 x2 x3 x4 x5
    refine zy_walk_h (ck := ck) (wn := wn) (p := S j) (by omega) hcl hwn hck (hst j (Nat.le_refl _)) (by omega) (by omega) (by omega) ?_
    intro n hn hd
    rw [x3, zv_am2, zv_D hk x2, nI_eq (by have := zv_n_lt ck x; omega) (by omega)] at hd
    subst hd
    have na := zv_a01 x2
    rw [← x3] at na
    refine zy_w125 b2 (by omega) (by omega) (fun k => ?_) (fun r => (zv_ok_rej ho (by rw [hck] at r; exact r)).elim)
    refine zy_w260 (l := L j) (by omega) (by omega) l2 (by omega) hn (hst j (Nat.le_refl _)) (fun z => ho.1 (by omega)) (fun z => absurd (by omega) z) (fun _ z => absurd x7 z) (fun _ _ z => absurd z na.1) (fun _ _ z => absurd z na.2) (fun _ _ _ _ z => absurd ⟨by rw [x3, zv_am2, hck]; exact x8, x9⟩ z) ?_
    intro _ _ _ _ _ _
    refine ⟨by omega, fun t => ?_⟩
    rw [← x10, ← x6, x3, zv_am2, nI_1, ← x11]
    refine ih (j + 1) _ _ _ _ (by omega) ?_
    intro i hi
    by_cases ei : i = j + 1
    · subst ei; exact pk_us
    · rw [pk_un ei]; exact hst i (by omega)
theorem zy_walk {post : Int32 → SY → Prop} {ck wn N : Nat} {claim st need running : Int32} {S : Nat → Nat} {E : Nat → Int32} {L : Nat → Nat} (hk : ck < 65536) (hcl : ¬ f_claimed = 0) (hwn : f_wn = nI wn) (hck : f_ck = nI ck) (hw : wn < 80) (hs0 : a_start 0 = 0) (hcm : f_claim = claim)
    (Q : zv_seq f_seed f_bits ck claim a_w wn N S E L) (C : zv_C f_seed f_bits ck a_w (S N) (wn - S N) (E N) (L N) N st need running)
    (H : ∀ tn nn t start, (∀ i, i ≤ N → start i = nI (S i)) → ((st = 2 ∨ st = 3) → start (N + 1) = nI wn ∧ nn = nI (N + 1)) → post st (f_capacity, f_seed, f_bits, f_count, tn, f_proofLen, f_proofNodes, f_claim, f_ck, f_wn, nn, f_claimed, a_keys, a_vals, a_dig, t, a_proof, a_proofStart, a_w, start)) : wpY_walk post (f_capacity, f_seed, f_bits, f_count, f_tn, f_proofLen, f_proofNodes, f_claim, f_ck, f_wn, f_nodes, f_claimed, a_keys, a_vals, a_dig, a_t, a_proof, a_proofStart, a_w, a_start) := by
  refine ⟨N + 1, ?_⟩
  have := zy_walk_l (post := post) (f_capacity := f_capacity) (f_seed := f_seed) (f_bits := f_bits) (f_count := f_count) (f_proofLen := f_proofLen) (f_proofNodes := f_proofNodes) (f_claim := f_claim) (f_ck := f_ck) (f_wn := f_wn) (f_claimed := f_claimed) (a_keys := a_keys) (a_vals := a_vals) (a_dig := a_dig) (a_proof := a_proof) (a_proofStart := a_proofStart) (a_w := a_w) hk hcl hwn hck hw Q C H N 0 f_tn 0 a_t a_start (by omega) (fun i hi => by
    have : i = 0 := by omega
    subst this
    rw [Q.1]; exact hs0)
  rw [Q.2.1, Q.2.2.1, ← hcm] at this
  exact this
theorem zy_walk_0 {post : Int32 → SY → Prop} (hcl : f_claimed = 0) (H : post 0 (f_capacity, f_seed, f_bits, f_count, f_tn, f_proofLen, f_proofNodes, f_claim, f_ck, f_wn, 0, f_claimed, a_keys, a_vals, a_dig, a_t, a_proof, a_proofStart, a_w, a_start)) : wpY_walk post (f_capacity, f_seed, f_bits, f_count, f_tn, f_proofLen, f_proofNodes, f_claim, f_ck, f_wn, f_nodes, f_claimed, a_keys, a_vals, a_dig, a_t, a_proof, a_proofStart, a_w, a_start) :=
  ⟨1, br_f (nI_ge (a := 0) (b := 5) (by omega) (by omega)) (br_t hcl H)⟩
end
end
section
/-! X's feed -/
def zv_u {α : Type} (f : Nat → α) (n : Nat) (x : α) : Nat → α := fun i => if i = n then x else f i
theorem zv_us {α : Type} {f : Nat → α} {n : Nat} {x : α} : zv_u f n x n = x := if_pos rfl
theorem zv_un {α : Type} {f : Nat → α} {n i : Nat} {x : α} (h : i ≠ n) : zv_u f n x i = f i := if_neg h
theorem zv_pass_ext {s b : Int32} {ck : Nat} {w w' : Nat → Int32} {p l p' l' : Nat} {e e' : Int32} (h : zv_pass s b ck w p l e p' l' e') (hw : ∀ i, i < p' → w' i = w i) : zv_pass s b ck w' p l e p' l' e' := by
  obtain ⟨x, x1, x2, x3, x4, x5, x6, x7, x8, x9, x10, x11⟩ := h
  have hc := zb_cnt_lt (bt (w (p + 2))) (zv_n_lt ck x) x9
  have e0 := hw p (by omega)
  have e1 := hw (p + 1) (by omega)
  have e2 := hw (p + 2) (by omega)
  have e3 := hw (p + 3 + zb_cnt (bt (w (p + 2))) (zv_n ck x)) (by omega)
  refine ⟨x, x1, x2, by rw [e0]; exact x3, by rw [e0, e1]; exact x4, by rw [e2]; exact x5, by rw [e2]; exact x6, ?_, by rw [e1]; exact x8, by rw [e2]; exact x9, by rw [e2, e3]; exact x10, x11⟩
  rw [e2, zy_seg_ext (w' := w) _ (fun i hi => hw _ (by omega))]
  exact x7
theorem zv_seq_ext {s b claim : Int32} {ck wn wn' N : Nat} {w w' : Nat → Int32} {S : Nat → Nat} {E : Nat → Int32} {L : Nat → Nat} (Q : zv_seq s b ck claim w wn N S E L) (h : wn ≤ wn') (hw : ∀ i, i < wn → w' i = w i) : zv_seq s b ck claim w' wn' N S E L := by
  have hm := zv_seq_m Q
  obtain ⟨q1, q2, q3, q4, q5, q6⟩ := Q
  refine ⟨q1, q2, q3, q4, by omega, fun j hj => zv_pass_ext (q6 j hj) (fun i hi => hw i ?_)⟩
  have := hm (N - (j + 1)) (j + 1) (by omega)
  omega
/-- a node that is read so far, and not too long -/
theorem zv_b78 {s b claim need running : Int32} {ck wn N : Nat} {w : Nat → Int32} {S : Nat → Nat} {E : Nat → Int32} {L : Nat → Nat} (Q : zv_seq s b ck claim w wn N S E L) (C : zv_more s ck w (S N) (wn - S N) (L N) N need running) : wn ≤ 78 := by
  obtain ⟨b1, b2, b3⟩ := zv_seq_b Q N (Nat.le_refl _)
  have q4 := Q.2.2.2.1
  have q5 := Q.2.2.2.2.1
  obtain ⟨c1, c2, c3, _⟩ := C
  have hc := zb_cnt_le (bt (w (S N + 2))) 16
  by_cases h3 : 3 ≤ wn - S N
  · have c3 := c3 h3
    rcases c1.1 (by omega) with z | ⟨d, d1, d2, z⟩ | ⟨z, _⟩
    · exact absurd z c3.1
    · omega
    · exact absurd z (c2 (by omega))
  · omega
section
variable {f_capacity f_seed f_bits f_freeCount f_top f_pairs f_pathLen f_status f_claimRoot f_claimKey f_fedLen f_node f_need f_running f_expected f_level : Int32} {a_tag a_second a_third a_hash a_kids a_freeIds a_path a_fed a_starts : Nat → Int32}
theorem zx_openNode {post : SX → Prop} {N : Nat} (hN : N < 5) (hn : f_node = nI N) (H : post (f_capacity, f_seed, f_bits, f_freeCount, f_top, f_pairs, f_pathLen, f_status, f_claimRoot, f_claimKey, f_fedLen, f_node, f_need, f_seed + 1, f_expected, f_level, a_tag, a_second, a_third, a_hash, a_kids, a_freeIds, a_path, a_fed, upd a_starts N f_fedLen)) : wpX_openNode post (f_capacity, f_seed, f_bits, f_freeCount, f_top, f_pairs, f_pathLen, f_status, f_claimRoot, f_claimKey, f_fedLen, f_node, f_need, f_running, f_expected, f_level, a_tag, a_second, a_third, a_hash, a_kids, a_freeIds, a_path, a_fed, a_starts) := by
  subst hn
  refine ⟨vp_in_nI hN (by omega), nm_e (nm_e ?_)⟩
  rw [nI_clamp (by omega)]
  exact H
theorem zx_closeNode {post : SX → Prop} {ck p len l N : Nat} {e : Int32} (hk : ck < 65536) (hN : N ≤ 4) (hNl : N ≤ l) (hnode : f_node = nI N) (hck : f_claimKey = nI ck) (hst : a_starts N = nI p) (he : f_expected = e) (hp : p + len ≤ 79)
    (ok : zv_ok (a_fed p) (a_fed (p + 1)) (a_fed (p + 2)) (nI ck) l N len) (hlen : len = zv_len a_fed p) (hrun : f_running = (zy_seg a_fed p len).foldl zh_mx (f_seed + 1))
    (Hx : zv_bad f_seed f_bits ck a_fed p len e l N → post (f_capacity, f_seed, f_bits, f_freeCount, f_top, f_pairs, f_pathLen, 4, f_claimRoot, f_claimKey, f_fedLen, f_node, f_need, f_running, f_expected, f_level, a_tag, a_second, a_third, a_hash, a_kids, a_freeIds, a_path, a_fed, a_starts)) (Hf : ∀ st, zv_fin f_seed f_bits ck a_fed p len e l N st → post (f_capacity, f_seed, f_bits, f_freeCount, f_top, f_pairs, f_pathLen, st, f_claimRoot, f_claimKey, f_fedLen, f_node, f_need, f_running, f_expected, f_level, a_tag, a_second, a_third, a_hash, a_kids, a_freeIds, a_path, a_fed, a_starts))
    (Hp : ∀ e' d, N + 1 ≤ 4 → zv_pass f_seed f_bits ck a_fed p l e (p + len) (d + 1) e' → post (f_capacity, f_seed, f_bits, f_freeCount, f_top, f_pairs, f_pathLen, f_status, f_claimRoot, f_claimKey, f_fedLen, nI (N + 1), f_need, f_seed + 1, e', nI (d + 1), a_tag, a_second, a_third, a_hash, a_kids, a_freeIds, a_path, a_fed, upd a_starts (N + 1) f_fedLen)) : wpX_closeNode post (f_capacity, f_seed, f_bits, f_freeCount, f_top, f_pairs, f_pathLen, f_status, f_claimRoot, f_claimKey, f_fedLen, f_node, f_need, f_running, f_expected, f_level, a_tag, a_second, a_third, a_hash, a_kids, a_freeIds, a_path, a_fed, a_starts) := by
  subst hnode hck he hrun
  have hl1 := zv_len_ge a_fed p
  have hcp : (nI p).toNatClampNeg = p := nI_clamp (by omega)
  have vp : vp_in (nI p) 79 := vp_in_nI (by omega) (by omega)
  have e1 : nI p + 1 = nI (p + 1) := nI_1 p
  unfold wpX_closeNode
  dsimp only
  rw [nI_clamp (by omega), hst]
  refine ⟨vp_in_nI (by omega) (by omega), nm_e (zx_finish ?_)⟩
  rw [hcp, e1]
  refine br_c (fun h => ⟨vp, br_c (fun h0 => Hf 3 ⟨ok, hlen, h, Or.inl ⟨h0, rfl⟩⟩) (fun h0 => ⟨vp, br_c (fun h1 => ?_) (fun h1 => ?_)⟩)⟩) (fun h => Hx (Or.inr ⟨ok, hlen, h⟩))
  · have h3 : len = 3 := by rw [hlen]; unfold zv_len; rw [if_neg h0, if_pos h1]
    refine ⟨vp_in_nI (by omega) (by omega), ?_⟩
    rw [nI_clamp (by omega)]
    refine br_c (fun h4 => Hf 2 ⟨ok, hlen, h, Or.inr (Or.inl ⟨h1, by rw [if_pos h4]⟩)⟩) (fun h4 => Hf 3 ⟨ok, hlen, h, Or.inr (Or.inl ⟨h1, by rw [if_neg h4]⟩)⟩)
  · rcases ok.1 (by omega) with z | ⟨d, d1, d2, z⟩ | ⟨z, _⟩
    · exact absurd z h1
    · have h3 := zv_len_b d2 z
      rw [← hlen] at h3
      have g1 : zv_g1 (a_fed p) (a_fed (p + 1)) (nI ck) l := by
        rcases ok.2.1 (by omega) with y | y
        · exact absurd y h0
        · exact y
      have g2 : zv_g2 (a_fed (p + 2)) := by
        rcases ok.2.2 (by omega) with y | y | y
        · exact absurd y h0
        · exact absurd y h1
        · exact y
      have hn16 := zv_n_lt ck d
      have hfin : ¬ (a_fed (p + 1) = zb_P (nI ck) (nI d) ∧ bt (a_fed (p + 2)) (zv_n ck d) = true) → post (f_capacity, f_seed, f_bits, f_freeCount, f_top, f_pairs, f_pathLen, 3, f_claimRoot, nI ck, f_fedLen, nI N, f_need, (zy_seg a_fed p len).foldl zh_mx (f_seed + 1), f_expected, f_level, a_tag, a_second, a_third, a_hash, a_kids, a_freeIds, a_path, a_fed, a_starts) := fun y => Hf 3 ⟨ok, hlen, h, Or.inr (Or.inr ⟨d, d1, d2, z, y, rfl⟩)⟩
      unfold wpX_closeBranch
      dsimp only
      rw [hcp, e1, show nI p + 2 = nI (p + 2) from nI_add p 2, z, zv_am2, nI_clamp (show p + 1 < 2 ^ 31 by omega), nI_clamp (show p + 2 < 2 ^ 31 by omega)]
      refine ⟨vp, nm_e ⟨vp_in_nI (by omega) (by omega), nm_e (zx_digit ⟨vp_in_nI (by omega) (by omega), zx_prefix (br_c (fun h4 => ?_) (fun h4 => hfin (fun y => h4 y.1)))⟩)⟩⟩
      rw [zv_D hk d2]
      refine zx_hasBit (by omega) (fun hb => br_f zb_1ne0 (zx_rank hn16 ?_)) (fun hb => br_t rfl (hfin (fun y => by rw [hb] at y; exact absurd y.2 (by decide))))
      have hc := zb_cnt_lt (bt (a_fed (p + 2))) hn16 hb
      rw [show nI p + 3 = nI (p + 3) from nI_add p 3, nI_add, nI_clamp (by omega)]
      refine ⟨vp_in_nI (by omega) (by omega), nm_e (nm_r (nI_1 d) (nm_r (nI_1 N) (zx_openNode (N := N + 1) (by omega) rfl ?_)))⟩
      refine Hp _ d (by omega) ⟨d, d1, d2, z, g1, g2, by rw [h3], by rw [← h3]; exact h, h4, hb, rfl, rfl⟩
    · exact absurd z h0
end
end
section
def zv_lk (node : Int32) (starts : Nat → Int32) (expected level : Int32) (N : Nat) (S : Nat → Nat) (E : Nat → Int32) (L : Nat → Nat) : Prop := node = nI N ∧ (∀ j, j ≤ N → starts j = nI (S j)) ∧ expected = E N ∧ level = nI (L N)
section
variable {f_capacity f_seed f_bits f_freeCount f_top f_pairs f_pathLen f_status f_claimRoot f_claimKey f_fedLen f_node f_need f_running f_expected f_level : Int32} {a_tag a_second a_third a_hash a_kids a_freeIds a_path a_fed a_starts : Nat → Int32}
theorem zx_feed_no {post : Int32 → SX → Prop} {x : Int32} (hs : ¬ f_status = 1) (H : post f_status (f_capacity, f_seed, f_bits, f_freeCount, f_top, f_pairs, f_pathLen, f_status, f_claimRoot, f_claimKey, f_fedLen, f_node, f_need, f_running, f_expected, f_level, a_tag, a_second, a_third, a_hash, a_kids, a_freeIds, a_path, a_fed, a_starts)) : wpX_feed post (f_capacity, f_seed, f_bits, f_freeCount, f_top, f_pairs, f_pathLen, f_status, f_claimRoot, f_claimKey, f_fedLen, f_node, f_need, f_running, f_expected, f_level, a_tag, a_second, a_third, a_hash, a_kids, a_freeIds, a_path, a_fed, a_starts) x := br_f hs H
theorem zx_feed {post : Int32 → SX → Prop} {ck wn N : Nat} {claim x : Int32} {S : Nat → Nat} {E : Nat → Int32} {L : Nat → Nat} (hk : ck < 65536) (hwn : f_fedLen = nI wn) (hck : f_claimKey = nI ck) (lk : zv_lk f_node a_starts f_expected f_level N S E L) (hs : f_status = 1)
    (Q : zv_seq f_seed f_bits ck claim a_fed wn N S E L) (C : zv_more f_seed ck a_fed (S N) (wn - S N) (L N) N f_need f_running)
    (H : ∀ st node need running expected level starts N' S' E' L', zv_lk node starts expected level N' S' E' L' → zv_seq f_seed f_bits ck claim (upd a_fed wn x) (wn + 1) N' S' E' L' → zv_C f_seed f_bits ck (upd a_fed wn x) (S' N') (wn + 1 - S' N') (E' N') (L' N') N' st need running →
      post st (f_capacity, f_seed, f_bits, f_freeCount, f_top, f_pairs, f_pathLen, st, f_claimRoot, f_claimKey, nI (wn + 1), node, need, running, expected, level, a_tag, a_second, a_third, a_hash, a_kids, a_freeIds, a_path, upd a_fed wn x, starts)) : wpX_feed post (f_capacity, f_seed, f_bits, f_freeCount, f_top, f_pairs, f_pathLen, f_status, f_claimRoot, f_claimKey, f_fedLen, f_node, f_need, f_running, f_expected, f_level, a_tag, a_second, a_third, a_hash, a_kids, a_freeIds, a_path, a_fed, a_starts) x := by
  have h78 := zv_b78 Q C
  obtain ⟨b1, b2, b3⟩ := zv_seq_b Q N (Nat.le_refl _)
  have q4 := Q.2.2.2.1
  have q5 := Q.2.2.2.2.1
  have Q' : zv_seq f_seed f_bits ck claim (upd a_fed wn x) (wn + 1) N S E L := zv_seq_ext Q (by omega) (fun i hi => pk_un (by omega))
  obtain ⟨l1, l2, l3, l4⟩ := lk
  subst hwn hck l1 l3 l4 hs
  have lk0 : zv_lk (nI N) a_starts (E N) (nI (L N)) N S E L := ⟨rfl, l2, rfl, rfl⟩
  have l2N := l2 N (Nat.le_refl _)
  generalize ehv : wn - S N = hv at C
  obtain ⟨c1, c2, c3, c4, c5, c6⟩ := C
  subst c4
  have hv1 : wn + 1 - S N = hv + 1 := by omega
  have ewn : wn = S N + hv := by omega
  have hlo : ∀ i, i < hv → upd a_fed wn x (S N + i) = a_fed (S N + i) := fun i hi => pk_un (by omega)
  have hhi : upd a_fed wn x (S N + hv) = x := by rw [← ewn]; exact pk_us
  have hseg : (zy_seg (upd a_fed wn x) (S N) (hv + 1)).foldl zh_mx (f_seed + 1) = zh_mx ((zy_seg a_fed (S N) hv).foldl zh_mx (f_seed + 1)) x := by
    rw [zy_seg, hhi, List.foldl_append, zy_seg_ext (w' := a_fed) hv hlo]; rfl
  have vN : vp_in (nI N) 5 := vp_in_nI (by omega) (by omega)
  have eN : (nI N).toNatClampNeg = N := nI_clamp (by omega)
  have vp : vp_in (nI (S N)) 79 := vp_in_nI (by omega) (by omega)
  have ep : (nI (S N)).toNatClampNeg = S N := nI_clamp (by omega)
  have Hbad : ∀ need running, zv_rej (upd a_fed wn x (S N)) (upd a_fed wn x (S N + 1)) (upd a_fed wn x (S N + 2)) (nI ck) (L N) N (hv + 1) → hv + 1 ≤ 3 →
      post 4 (f_capacity, f_seed, f_bits, f_freeCount, f_top, f_pairs, f_pathLen, 4, f_claimRoot, nI ck, nI (wn + 1), nI N, need, running, E N, nI (L N), a_tag, a_second, a_third, a_hash, a_kids, a_freeIds, a_path, upd a_fed wn x, a_starts) := by
    intro need running r h3
    refine H 4 _ need running _ _ _ N S E L lk0 Q' (Or.inr (Or.inl ⟨rfl, Or.inl ⟨?_, ?_⟩⟩))
    · rw [hv1]; exact r
    · omega
  have Hmore : ∀ need, zv_more f_seed ck (upd a_fed wn x) (S N) (hv + 1) (L N) N need (zh_mx ((zy_seg a_fed (S N) hv).foldl zh_mx (f_seed + 1)) x) →
      post 1 (f_capacity, f_seed, f_bits, f_freeCount, f_top, f_pairs, f_pathLen, 1, f_claimRoot, nI ck, nI (wn + 1), nI N, need, zh_mx ((zy_seg a_fed (S N) hv).foldl zh_mx (f_seed + 1)) x, E N, nI (L N), a_tag, a_second, a_third, a_hash, a_kids, a_freeIds, a_path, upd a_fed wn x, a_starts) := by
    intro need m
    refine H 1 _ need _ _ _ _ N S E L lk0 Q' (Or.inl ⟨rfl, ?_⟩)
    rw [hv1]; exact m
  have Hclose : ∀ need, zv_ok (upd a_fed wn x (S N)) (upd a_fed wn x (S N + 1)) (upd a_fed wn x (S N + 2)) (nI ck) (L N) N (hv + 1) → hv + 1 = zv_len (upd a_fed wn x) (S N) →
      wpX_closeNode (fun u => match u with | (f_capacity, f_seed, f_bits, f_freeCount, f_top, f_pairs, f_pathLen, f_status, f_claimRoot, f_claimKey, f_fedLen, f_node, f_need, f_running, f_expected, f_level, a_tag, a_second, a_third, a_hash, a_kids, a_freeIds, a_path, a_fed, a_starts) => post f_status (f_capacity, f_seed, f_bits, f_freeCount, f_top, f_pairs, f_pathLen, f_status, f_claimRoot, f_claimKey, f_fedLen, f_node, f_need, f_running, f_expected, f_level, a_tag, a_second, a_third, a_hash, a_kids, a_freeIds, a_path, a_fed, a_starts)) (f_capacity, f_seed, f_bits, f_freeCount, f_top, f_pairs, f_pathLen, 1, f_claimRoot, nI ck, nI (wn + 1), nI N, need, zh_mx ((zy_seg a_fed (S N) hv).foldl zh_mx (f_seed + 1)) x, E N, nI (L N), a_tag, a_second, a_third, a_hash, a_kids, a_freeIds, a_path, upd a_fed wn x, a_starts) := by
    intro need ok hl
    refine zx_closeNode (ck := ck) (p := S N) (len := hv + 1) (l := L N) (N := N) (e := E N) hk (by omega) b1 rfl rfl l2N rfl (by omega) ok hl hseg.symm ?_ ?_ ?_
    · intro z
      refine H 4 _ need _ _ _ _ N S E L lk0 Q' (Or.inr (Or.inl ⟨rfl, ?_⟩))
      rw [hv1]; exact z
    · intro st z
      refine H st _ need _ _ _ _ N S E L lk0 Q' (Or.inr (Or.inr ?_))
      rw [hv1]; exact z
    · intro e' d hN4 z
      rw [show S N + (hv + 1) = wn + 1 by omega] at z
      refine H 1 _ need _ _ _ _ (N + 1) (zv_u S (N + 1) (wn + 1)) (zv_u E (N + 1) e') (zv_u L (N + 1) (d + 1)) ⟨rfl, ?_, zv_us.symm, by rw [zv_us]⟩ ⟨?_, ?_, ?_, hN4, by rw [zv_us]; exact Nat.le_refl _, ?_⟩ (Or.inl ⟨rfl, ?_⟩)
      · intro j hj
        by_cases ej : j = N + 1
        · subst ej; rw [pk_us, zv_us]
        · rw [pk_un ej, zv_un ej]; exact l2 j (by omega)
      · rw [zv_un (by omega)]; exact Q'.1
      · rw [zv_un (by omega)]; exact Q'.2.1
      · rw [zv_un (by omega)]; exact Q'.2.2.1
      · intro j hj
        by_cases ej : j = N
        · subst ej
          rw [zv_us, zv_us, zv_us, zv_un (by omega), zv_un (by omega), zv_un (by omega)]
          exact z
        · rw [zv_un (by omega), zv_un (by omega), zv_un (by omega), zv_un (by omega), zv_un (by omega), zv_un (by omega)]
          exact Q'.2.2.2.2.2 j (by omega)
      · rw [zv_us, Nat.sub_self]
        exact ⟨⟨fun z => by omega, fun z => by omega, fun z => by omega⟩, fun z => by omega, fun z => by omega, rfl, fun z => by omega, fun z => by omega⟩
  have exv : nI wn - nI (S N) = nI hv := by rw [pk_sub q5]; exact congrArg nI ehv
  unfold wpX_feed
  dsimp only
  rw [eN, l2N, exv, nI_clamp (show wn < 2 ^ 31 by omega)]
  refine br_t rfl ⟨vN, nm_e ⟨vp_in_nI (by omega) (by omega), nm_e (nm_r (nI_1 wn) ?_)⟩⟩
  rcases (by omega : hv = 0 ∨ hv = 1 ∨ hv = 2 ∨ 3 ≤ hv) with rfl | rfl | rfl | h3
  · rw [Nat.add_zero] at hhi
    refine br_t rfl (zv_g0_tree b2 (by rw [show (0 : Int32) = nI 0 from rfl, nI_eq (by omega) (by omega)]) (fun g => br_f zb_1ne0 ?_) (fun g => br_t rfl (Hbad _ _ (Or.inl ⟨by omega, by rw [hhi]; exact g⟩) (by omega))))
    have ok : zv_ok (upd a_fed wn x (S N)) (upd a_fed wn x (S N + 1)) (upd a_fed wn x (S N + 2)) (nI ck) (L N) N (0 + 1) := ⟨fun _ => by rw [hhi]; exact g, fun z => by omega, fun z => by omega⟩
    unfold wpX_absorb
    refine zx_mix ?_
    refine br_t rfl (br_c (fun h0 => br_t rfl (Hclose 1 ok ?_)) (fun h0 => br_f (by decide) (Hmore 3 ⟨ok, fun _ => by rw [hhi]; exact h0, fun z => by omega, hseg.symm, fun _ _ => rfl, fun z => by omega⟩)))
    unfold zv_len
    rw [hhi, if_pos h0]
  · have e0 : upd a_fed wn x (S N) = a_fed (S N) := hlo 0 (by omega)
    have a0 := c2 (by omega)
    have g0 := c1.1 (by omega)
    have need3 := c5 (by omega) (by omega)
    subst need3
    have good : zv_g1 (a_fed (S N)) x (nI ck) (L N) → wpX_absorb (fun u => match u with | (f_capacity, f_seed, f_bits, f_freeCount, f_top, f_pairs, f_pathLen, f_status, f_claimRoot, f_claimKey, f_fedLen, f_node, f_need, f_running, f_expected, f_level, a_tag, a_second, a_third, a_hash, a_kids, a_freeIds, a_path, a_fed, a_starts) => post f_status (f_capacity, f_seed, f_bits, f_freeCount, f_top, f_pairs, f_pathLen, f_status, f_claimRoot, f_claimKey, f_fedLen, f_node, f_need, f_running, f_expected, f_level, a_tag, a_second, a_third, a_hash, a_kids, a_freeIds, a_path, a_fed, a_starts)) (f_capacity, f_seed, f_bits, f_freeCount, f_top, f_pairs, f_pathLen, 1, f_claimRoot, nI ck, nI (wn + 1), nI N, 3, (zy_seg a_fed (S N) 1).foldl zh_mx (f_seed + 1), E N, nI (L N), a_tag, a_second, a_third, a_hash, a_kids, a_freeIds, a_path, upd a_fed wn x, a_starts) (nI 1) x := by
      intro g
      unfold wpX_absorb
      refine zx_mix ?_
      refine br_f (by decide) (br_f (by decide) (br_f (by decide) (Hmore 3 ⟨⟨fun _ => by rw [e0]; exact g0, fun _ => Or.inr (by rw [e0, hhi]; exact g), fun z => by omega⟩, fun _ => by rw [e0]; exact a0, fun z => by omega, hseg.symm, fun _ _ => rfl, fun z => by omega⟩)))
    have bad : ¬ zv_g1 (a_fed (S N)) x (nI ck) (L N) → post 4 (f_capacity, f_seed, f_bits, f_freeCount, f_top, f_pairs, f_pathLen, 4, f_claimRoot, nI ck, nI (wn + 1), nI N, 3, (zy_seg a_fed (S N) 1).foldl zh_mx (f_seed + 1), E N, nI (L N), a_tag, a_second, a_third, a_hash, a_kids, a_freeIds, a_path, upd a_fed wn x, a_starts) := by
      intro g
      exact Hbad _ _ (Or.inr (Or.inl ⟨by omega, by rw [e0]; exact g0, by rw [e0]; exact a0, by rw [e0, hhi]; exact g⟩)) (by omega)
    unfold wpX_isGood
    dsimp only
    rw [eN, l2N, ep, e0]
    refine br_f (by decide) ⟨vN, vp, nm_e (br_t rfl ?_)⟩
    unfold wpX_isGoodSecond
    refine zx_isKey (fun k1 => br_f zb_1ne0 (zx_prefix (zx_prefix (br_c (fun k2 => br_c (fun k3 => ⟨narrow_b1, br_f zb_1ne0 (good ⟨k1, k2, Or.inl k3⟩)⟩) (fun k3 => zx_prefix (br_c (fun k4 => ⟨narrow_b1, br_f zb_1ne0 (good ⟨k1, k2, Or.inr k4⟩)⟩) (fun k4 => ⟨narrow_b0, br_t rfl (bad (fun z => ?_))⟩)))) (fun k2 => ⟨narrow_b0, br_t rfl (bad (fun z => k2 z.2.1))⟩))))) (fun k1 => br_t rfl ⟨narrow_b0, br_t rfl (bad (fun z => k1 z.1))⟩)
    rcases z.2.2 with y | y
    · exact k3 y
    · exact k4 y
  · have e0 : upd a_fed wn x (S N) = a_fed (S N) := hlo 0 (by omega)
    have e1 : upd a_fed wn x (S N + 1) = a_fed (S N + 1) := hlo 1 (by omega)
    have a0 := c2 (by omega)
    have g0 := c1.1 (by omega)
    have g1 := c1.2.1 (by omega)
    have need3 := c5 (by omega) (by omega)
    subst need3
    unfold wpX_isGood
    dsimp only
    rw [eN, l2N, ep, e0]
    refine br_f (by decide) ⟨vN, vp, nm_e (br_f (by decide) (br_f (by decide) (br_c (fun k1 => br_f zb_1ne0 ?_) (fun k1 => ?_))))⟩
    · have hlt : a_fed (S N) < 2 := by rw [k1]; decide
      unfold wpX_absorb
      refine zx_mix ?_
      refine br_f (by decide) (br_t rfl ⟨vN, ?_⟩)
      rw [eN, l2N, ep, e0]
      refine ⟨vp, br_t hlt (br_t (by decide) (Hclose 3 ⟨fun _ => by rw [e0]; exact g0, fun _ => by rw [e0, e1]; exact g1, fun _ => Or.inr (Or.inl (by rw [e0]; exact k1))⟩ ?_))⟩
      unfold zv_len
      rw [e0, if_neg a0, if_pos k1]
    · have hlt : ¬ a_fed (S N) < 2 := by
        rcases g0 with z | ⟨d, _, d2, z⟩ | ⟨z, _⟩
        · exact absurd z k1
        · rw [z]; exact nI_nlt (b := 2) (by omega) (by omega)
        · exact absurd z a0
      have hcx := zb_cnt_le (bt x) 16
      have bad : ¬ zv_g2 x → post 4 (f_capacity, f_seed, f_bits, f_freeCount, f_top, f_pairs, f_pathLen, 4, f_claimRoot, nI ck, nI (wn + 1), nI N, 3, (zy_seg a_fed (S N) 2).foldl zh_mx (f_seed + 1), E N, nI (L N), a_tag, a_second, a_third, a_hash, a_kids, a_freeIds, a_path, upd a_fed wn x, a_starts) := by
        intro g
        exact Hbad _ _ (Or.inr (Or.inr ⟨by omega, by rw [e0]; exact g0, by rw [e0]; exact a0, by rw [e0]; exact k1, by rw [hhi]; exact g⟩)) (by omega)
      refine zx_isKey (fun k2 => br_f zb_1ne0 (zx_bitCount (br_c (fun k3 => br_t rfl (bad (fun z => ?_))) (fun k3 => br_f zb_1ne0 ?_)))) (fun k2 => br_t rfl (br_t rfl (bad (fun z => k2 z.1))))
      · rw [show (2 : Int32) = nI 2 from rfl, nI_ltI (by omega) (by omega)] at k3
        have := z.2
        omega
      · rw [show (2 : Int32) = nI 2 from rfl, nI_ltI (by omega) (by omega)] at k3
        unfold wpX_absorb
        refine zx_mix ?_
        refine br_f (by decide) (br_t rfl ⟨vN, ?_⟩)
        rw [eN, l2N, ep, e0]
        refine ⟨vp, br_f hlt (zx_bitCount (nm_r (e' := nI (3 + zb_cnt (bt x) 16)) (nI_add 3 _) (br_f ?_ (Hmore (nI (3 + zb_cnt (bt x) 16)) ⟨⟨fun _ => by rw [e0]; exact g0, fun _ => by rw [e0, e1]; exact g1, fun _ => Or.inr (Or.inr (by rw [hhi]; exact ⟨k2, by omega⟩))⟩, fun _ => by rw [e0]; exact a0, fun _ => ⟨by rw [e0]; exact k1, by rw [hhi]; omega⟩, hseg.symm, fun _ z => by omega, fun _ => by rw [hhi]⟩))))⟩
        rw [show nI 2 + 1 = nI 3 from rfl, nI_eq (by omega) (by omega)]
        omega
  · have e0 : upd a_fed wn x (S N) = a_fed (S N) := hlo 0 (by omega)
    have e1 : upd a_fed wn x (S N + 1) = a_fed (S N + 1) := hlo 1 (by omega)
    have e2 : upd a_fed wn x (S N + 2) = a_fed (S N + 2) := hlo 2 (by omega)
    have a0 := c2 (by omega)
    have c3 := c3 h3
    have c6 := c6 h3
    subst c6
    have hcx := zb_cnt_le (bt (a_fed (S N + 2))) 16
    have ok : zv_ok (upd a_fed wn x (S N)) (upd a_fed wn x (S N + 1)) (upd a_fed wn x (S N + 2)) (nI ck) (L N) N (hv + 1) := by
      rw [e0, e1, e2]
      exact ⟨fun _ => c1.1 (by omega), fun _ => c1.2.1 (by omega), fun _ => c1.2.2 (by omega)⟩
    have n0 : ¬ nI hv = 0 := nI_ne0 (by omega) (by omega)
    have n1 : ¬ nI hv = 1 := by rw [show (1 : Int32) = nI 1 from rfl, nI_eq (by omega) (by omega)]; omega
    have n2 : ¬ nI hv = 2 := by rw [show (2 : Int32) = nI 2 from rfl, nI_eq (by omega) (by omega)]; omega
    have n3 : (2 : Int32) < nI hv := nI_lt (a := 2) (by omega) (by omega)
    unfold wpX_isGood
    dsimp only
    rw [eN, l2N, ep]
    refine br_f n0 ⟨vN, vp, nm_e (br_f n1 (br_t n3 (br_f zb_1ne0 ?_)))⟩
    unfold wpX_absorb
    refine zx_mix ?_
    refine br_f n0 (br_f n2 ?_)
    by_cases hl : hv + 1 = 3 + zb_cnt (bt (a_fed (S N + 2))) 16
    · refine br_t (by rw [nI_1, hl]) (Hclose _ ok ?_)
      unfold zv_len
      rw [e0, e2, if_neg a0, if_neg c3.1]
      exact hl
    · refine br_f (by rw [nI_1, nI_eq (by omega) (by omega)]; exact hl) (Hmore _ ⟨ok, fun _ => by rw [e0]; exact a0, fun _ => ⟨by rw [e0]; exact c3.1, by rw [e2]; omega⟩, hseg.symm, fun _ z => by omega, fun _ => by rw [e2]⟩)
end
end
section
/-! a fed branch with another mask and another word; the climb -/
def zr_f (w : Nat → Int32) (p n : Nat) (x : Int32) : Nat → Int32 := fun v => if v = n then x else w (p + 3 + zb_cnt (bt (w (p + 2))) v)
def zr_E (s b : Int32) (w : Nat → Int32) (p : Nat) (m : Int32) (n : Nat) (x : Int32) : Int32 := zh_H s b (w p :: w (p + 1) :: m :: zh_kl (bt m) (zr_f w p n x) 16)
def zr_n (ck a : Int32) : Nat := (zb_D ck (a - 2)).toNatClampNeg
theorem zr_n_D (ck a : Int32) : zb_D ck (a - 2) = nI (zr_n ck a) ∧ zr_n ck a < 16 := by
  obtain ⟨v, h1, h2⟩ := zb_D_in ck (a - 2)
  unfold zr_n
  rw [h2, nI_clamp (by omega)]
  exact ⟨rfl, h1⟩
def zr_climb (s b : Int32) (w : Nat → Int32) (ck : Int32) (S : Nat → Nat) : Nat → Int32 → Int32
  | 0, x => x
  | j + 1, x => zr_climb s b w ck S j (zr_E s b w (S j) (w (S j + 2)) (zr_n ck (w (S j))) x)
section
variable {f_capacity f_seed f_bits f_freeCount f_top f_pairs f_pathLen f_status f_claimRoot f_claimKey f_fedLen f_node f_need f_running f_expected f_level : Int32} {a_tag a_second a_third a_hash a_kids a_freeIds a_path a_fed a_starts : Nat → Int32}
theorem zx_edited_l {post : Int32 → Prop} {p n : Nat} {m x h3 : Int32} (hn : n < 16) (hb : p + 3 + zb_cnt (bt (a_fed (p + 2))) 16 ≤ 79) (hsub : ∀ v, v < 16 → v ≠ n → bt m v = true → bt (a_fed (p + 2)) v = true)
    (H : post (zh_fn f_bits ((zh_kl (bt m) (zr_f a_fed p n x) 16).foldl zh_mx h3))) :
    ∀ d v, v + d = 16 → wX_edited_70 post m x (nI n) (a_fed (p + 2)) f_capacity f_seed f_bits f_freeCount f_top f_pairs f_pathLen f_status f_claimRoot f_claimKey f_fedLen f_node f_need f_running f_expected f_level a_tag a_second a_third a_hash a_kids a_freeIds a_path a_fed a_starts (d + 1) ((zh_kl (bt m) (zr_f a_fed p n x) v).foldl zh_mx h3) (nI (p + 3 + zb_cnt (bt (a_fed (p + 2))) v)) (nI v) := by
  intro d
  induction d with
  | zero =>
    intro v hv
    have : v = 16 := by omega
    subst this
    exact br_t (nI_le (a := 16) (b := 16) (by omega) (by omega)) (zx_finish H)
  | succ d ih =>
    intro v hv
    have ihv := ih (v + 1) (by omega)
    have hcv := zb_cnt_mono (bt (a_fed (p + 2))) (show v ≤ 16 by omega)
    have step : ∀ h, h = (zh_kl (bt m) (zr_f a_fed p n x) (v + 1)).foldl zh_mx h3 → wX_edited_113 post (wX_edited_70 post m x (nI n) (a_fed (p + 2)) f_capacity f_seed f_bits f_freeCount f_top f_pairs f_pathLen f_status f_claimRoot f_claimKey f_fedLen f_node f_need f_running f_expected f_level a_tag a_second a_third a_hash a_kids a_freeIds a_path a_fed a_starts (d + 1)) m x (nI n) (a_fed (p + 2)) h (nI (p + 3 + zb_cnt (bt (a_fed (p + 2))) v)) (nI v) f_capacity f_seed f_bits f_freeCount f_top f_pairs f_pathLen f_status f_claimRoot f_claimKey f_fedLen f_node f_need f_running f_expected f_level a_tag a_second a_third a_hash a_kids a_freeIds a_path a_fed a_starts := by
      intro h eh
      subst eh
      unfold wX_edited_113
      rw [zb_cnt] at ihv
      refine zx_hasBit (by omega) (fun hb2 => br_f zb_1ne0 (nm_r (nI_1 _) (nm_r (nI_1 v) ?_))) (fun hb2 => br_t rfl (nm_r (nI_1 v) ?_))
      · rw [if_pos hb2] at ihv; exact ihv
      · rw [hb2] at ihv; exact ihv
    refine br_f (nI_ge (a := v) (b := 16) (by omega) (by omega)) (zx_hasBit (by omega) (fun hb2 => br_f zb_1ne0 (br_c (fun h4 => ?_) (fun h4 => ?_))) (fun hb2 => br_t rfl (step _ ?_)))
    · rw [nI_eq (by omega) (by omega)] at h4
      unfold wX_edited_108
      refine zx_mix (step _ ?_)
      rw [zh_kl, if_pos hb2, List.foldl_append]
      show _ = zh_mx _ (zr_f a_fed p n x v)
      unfold zr_f
      rw [if_pos h4]
    · rw [nI_eq (by omega) (by omega)] at h4
      have hlt := zb_cnt_lt (bt (a_fed (p + 2))) (show v < 16 by omega) (hsub v (by omega) h4 hb2)
      refine ⟨vp_in_nI (by omega) (by omega), ?_⟩
      unfold wX_edited_108
      rw [nI_clamp (by omega)]
      refine zx_mix (step _ ?_)
      rw [zh_kl, if_pos hb2, List.foldl_append]
      show _ = zh_mx _ (zr_f a_fed p n x v)
      unfold zr_f
      rw [if_neg h4]
    · rw [zh_kl, hb2, if_neg (by decide), List.append_nil]
theorem zx_edited {post : Int32 → Prop} {j p n : Nat} {m x : Int32} (hj : j < 5) (hst : a_starts j = nI p) (hn : n < 16) (hd : zb_D f_claimKey (a_fed p - 2) = nI n) (hb : p + 3 + zb_cnt (bt (a_fed (p + 2))) 16 ≤ 79)
    (hsub : ∀ v, v < 16 → v ≠ n → bt m v = true → bt (a_fed (p + 2)) v = true) (H : post (zr_E f_seed f_bits a_fed p m n x)) : wpX_edited post (f_capacity, f_seed, f_bits, f_freeCount, f_top, f_pairs, f_pathLen, f_status, f_claimRoot, f_claimKey, f_fedLen, f_node, f_need, f_running, f_expected, f_level, a_tag, a_second, a_third, a_hash, a_kids, a_freeIds, a_path, a_fed, a_starts) (nI j) m x := by
  unfold wpX_edited
  dsimp only
  rw [nI_clamp (show j < 2 ^ 31 by omega), hst]
  refine ⟨vp_in_nI hj (by omega), nm_e ?_⟩
  rw [nI_clamp (show p < 2 ^ 31 by omega), show nI p + 1 = nI (p + 1) from nI_1 p, show nI p + 2 = nI (p + 2) from nI_add p 2, nI_clamp (show p + 1 < 2 ^ 31 by omega), nI_clamp (show p + 2 < 2 ^ 31 by omega)]
  refine ⟨vp_in_nI (by omega) (by omega), zx_digit ?_⟩
  rw [hd]
  refine ⟨vp_in_nI (by omega) (by omega), nm_e ⟨vp_in_nI (by omega) (by omega), vp_in_nI (by omega) (by omega), zx_mix3 (nm_r (e' := nI (p + 3 + zb_cnt (bt (a_fed (p + 2))) 0)) (nI_add p 3) ⟨17, ?_⟩)⟩⟩
  unfold zr_E zh_H at H
  rw [List.foldl_cons, List.foldl_cons, List.foldl_cons] at H
  exact zx_edited_l hn hb hsub H 16 0 rfl
theorem zx_climb_l {post : Int32 → Prop} {ck : Nat} {S : Nat → Nat} (hck : f_claimKey = nI ck) : ∀ c n x, c ≤ 5 → c < n → (∀ j, j < c → a_starts j = nI (S j) ∧ S j + 3 + zb_cnt (bt (a_fed (S j + 2))) 16 ≤ 79) → post (zr_climb f_seed f_bits a_fed (nI ck) S c x) → wX_climb_5 post f_capacity f_seed f_bits f_freeCount f_top f_pairs f_pathLen f_status f_claimRoot f_claimKey f_fedLen f_node f_need f_running f_expected f_level a_tag a_second a_third a_hash a_kids a_freeIds a_path a_fed a_starts n x (nI c + (-1)) := by
  subst hck
  intro c
  induction c with
  | zero =>
    intro n x _ hn _ H
    obtain ⟨n, rfl⟩ : ∃ m, n = m + 1 := ⟨n - 1, by omega⟩
    exact br_t (by decide) H
  | succ c ih =>
    intro n x hc hn hs H
    obtain ⟨n, rfl⟩ : ∃ m, n = m + 1 := ⟨n - 1, by omega⟩
    obtain ⟨s1, s2⟩ := hs c (by omega)
    obtain ⟨d1, d2⟩ := zr_n_D (nI ck) (a_fed (S c))
    rw [pk_m1]
    refine br_f (nI_pos (by omega)) ⟨vp_in_nI (by omega) (by omega), ?_⟩
    rw [nI_clamp (by omega), s1, show nI (S c) + 2 = nI (S c + 2) from nI_add _ 2, nI_clamp (by omega)]
    refine ⟨vp_in_nI (by omega) (by omega), zx_edited (by omega) s1 d2 d1 s2 (fun v _ _ h => h) (nm_e (ih n _ (by omega) (by omega) (fun j hj => hs j (by omega)) H))⟩
theorem zx_climb {post : Int32 → Prop} {ck c : Nat} {S : Nat → Nat} {x y : Int32} (hck : f_claimKey = nI ck) (hc : c ≤ 5) (hs : ∀ j, j < c → a_starts j = nI (S j) ∧ S j + 3 + zb_cnt (bt (a_fed (S j + 2))) 16 ≤ 79) (hy : y = nI c + (-1)) (H : post (zr_climb f_seed f_bits a_fed (nI ck) S c x)) : wpX_climb post (f_capacity, f_seed, f_bits, f_freeCount, f_top, f_pairs, f_pathLen, f_status, f_claimRoot, f_claimKey, f_fedLen, f_node, f_need, f_running, f_expected, f_level, a_tag, a_second, a_third, a_hash, a_kids, a_freeIds, a_path, a_fed, a_starts) y x := by
  subst hy
  exact ⟨c + 1, zx_climb_l hck c (c + 1) x hc (by omega) hs H⟩
end
section
variable {f_capacity f_seed f_bits f_count f_tn f_proofLen f_proofNodes f_claim f_ck f_wn f_nodes f_claimed : Int32} {a_keys a_vals a_dig a_t a_proof a_proofStart a_w a_start : Nat → Int32}
theorem zy_rehash_l {post : Int32 → SY → Prop} {p n : Nat} {m x a0 a1 : Int32} (hn : n < 16) (hb : p ≤ 80) (H : ∀ tn t, post (zh_H f_seed f_bits (a0 :: a1 :: m :: zh_kl (bt m) (zr_f a_w p n x) 16)) (f_capacity, f_seed, f_bits, f_count, tn, f_proofLen, f_proofNodes, f_claim, f_ck, f_wn, f_nodes, f_claimed, a_keys, a_vals, a_dig, t, a_proof, a_proofStart, a_w, a_start)) :
    ∀ d v t, v + d = 16 → zy_T t (a0 :: a1 :: m :: zh_kl (bt m) (zr_f a_w p n x) v) → wY_rehash_57 post m x (nI p) (nI n) (d + 1) (nI (p + 3 + zb_cnt (bt (a_w (p + 2))) v)) (nI v) f_capacity f_seed f_bits f_count (nI (a0 :: a1 :: m :: zh_kl (bt m) (zr_f a_w p n x) v).length) f_proofLen f_proofNodes f_claim f_ck f_wn f_nodes f_claimed a_keys a_vals a_dig t a_proof a_proofStart a_w a_start := by
  intro d
  induction d with
  | zero =>
    intro v t hv ht
    have : v = 16 := by omega
    subst this
    refine br_t (nI_le (a := 16) (b := 16) (by omega) (by omega)) (zy_hash ?_ ht (H _ _))
    rw [List.length_cons, List.length_cons, List.length_cons, zh_kl_len]
    have := zb_cnt_le (bt m) 16
    omega
  | succ d ih =>
    intro v t hv ht
    have ihv := ih (v + 1)
    have hcv := zb_cnt_le (bt (a_w (p + 2))) v
    have hcm := zb_cnt_le (bt m) v
    have hlen : (a0 :: a1 :: m :: zh_kl (bt m) (zr_f a_w p n x) v).length = 3 + zb_cnt (bt m) v := by
      rw [List.length_cons, List.length_cons, List.length_cons, zh_kl_len]; omega
    have step : ∀ t', zy_T t' (a0 :: a1 :: m :: zh_kl (bt m) (zr_f a_w p n x) (v + 1)) → wY_rehash_96 post (wY_rehash_57 post m x (nI p) (nI n) (d + 1)) m x (nI p) (nI n) (nI (p + 3 + zb_cnt (bt (a_w (p + 2))) v)) (nI v) f_capacity f_seed f_bits f_count (nI (a0 :: a1 :: m :: zh_kl (bt m) (zr_f a_w p n x) (v + 1)).length) f_proofLen f_proofNodes f_claim f_ck f_wn f_nodes f_claimed a_keys a_vals a_dig t' a_proof a_proofStart a_w a_start := by
      intro t' ht'
      unfold wY_rehash_96
      rw [show nI p + 2 = nI (p + 2) from nI_add p 2, nI_clamp (by omega)]
      refine ⟨vp_in_nI (by omega) (by omega), nm_r (e' := nI (p + 3 + zb_cnt (bt (a_w (p + 2))) (v + 1))) ?_ (nm_r (nI_1 v) (ihv t' (by omega) ht'))⟩
      have := zb_cB (a_w (p + 2)) (show v < 32 by omega)
      rw [← nI_add (p + 3), ← nI_add (p + 3), ← this, Int32.add_assoc]
      rfl
    refine br_f (nI_ge (a := v) (b := 16) (by omega) (by omega)) ?_
    cases hb2 : bt m v with
    | true =>
      refine br_t (c := zb_B m (nI v) = 1) (zb_B_t (by omega) hb2) (br_c (fun h4 => ?_) (fun h4 => ?_))
      · rw [nI_eq (by omega) (by omega)] at h4
        unfold wY_rehash_93
        refine zy_add (by rw [hlen]; omega) ht ?_
        intro t' ht'
        have hk : (a0 :: a1 :: m :: zh_kl (bt m) (zr_f a_w p n x) v) ++ [x] = a0 :: a1 :: m :: zh_kl (bt m) (zr_f a_w p n x) (v + 1) := by
          rw [zh_kl, if_pos hb2]
          unfold zr_f
          rw [if_pos h4]; rfl
        have hl2 : (a0 :: a1 :: m :: zh_kl (bt m) (zr_f a_w p n x) v).length + 1 = (a0 :: a1 :: m :: zh_kl (bt m) (zr_f a_w p n x) (v + 1)).length := by rw [← hk, List.length_append]; rfl
        rw [hk] at ht'
        rw [hl2]
        exact step t' ht'
      · rw [nI_eq (by omega) (by omega)] at h4
        refine ⟨vp_in_nI (by omega) (by omega), ?_⟩
        unfold wY_rehash_93
        rw [nI_clamp (by omega)]
        refine zy_add (by rw [hlen]; omega) ht ?_
        intro t' ht'
        have hk : (a0 :: a1 :: m :: zh_kl (bt m) (zr_f a_w p n x) v) ++ [a_w (p + 3 + zb_cnt (bt (a_w (p + 2))) v)] = a0 :: a1 :: m :: zh_kl (bt m) (zr_f a_w p n x) (v + 1) := by
          rw [zh_kl, if_pos hb2]
          show _ = a0 :: a1 :: m :: (zh_kl (bt m) (zr_f a_w p n x) v ++ [zr_f a_w p n x v])
          rw [show zr_f a_w p n x v = a_w (p + 3 + zb_cnt (bt (a_w (p + 2))) v) from if_neg h4]; rfl
        have hl2 : (a0 :: a1 :: m :: zh_kl (bt m) (zr_f a_w p n x) v).length + 1 = (a0 :: a1 :: m :: zh_kl (bt m) (zr_f a_w p n x) (v + 1)).length := by rw [← hk, List.length_append]; rfl
        rw [hk] at ht'
        rw [hl2]
        exact step t' ht'
    | false =>
      refine br_f (c := zb_B m (nI v) = 1) (by rw [zb_B_f (by omega) hb2]; exact zb_0ne1) ?_
      have hk : zh_kl (bt m) (zr_f a_w p n x) (v + 1) = zh_kl (bt m) (zr_f a_w p n x) v := by
        rw [zh_kl, hb2, if_neg (by decide), List.append_nil]
      rw [hk] at step
      exact step t ht
theorem zy_rehash {post : Int32 → SY → Prop} {j p n : Nat} {m x : Int32} (hj : j < 6) (hst : a_start j = nI p) (hn : n < 16) (hd : zb_D f_ck (a_w p - 2) = nI n) (hb : p ≤ 80) (H : ∀ tn t, post (zr_E f_seed f_bits a_w p m n x) (f_capacity, f_seed, f_bits, f_count, tn, f_proofLen, f_proofNodes, f_claim, f_ck, f_wn, f_nodes, f_claimed, a_keys, a_vals, a_dig, t, a_proof, a_proofStart, a_w, a_start)) : wpY_rehash post (f_capacity, f_seed, f_bits, f_count, f_tn, f_proofLen, f_proofNodes, f_claim, f_ck, f_wn, f_nodes, f_claimed, a_keys, a_vals, a_dig, a_t, a_proof, a_proofStart, a_w, a_start) (nI j) m x := by
  unfold wpY_rehash
  dsimp only
  rw [nI_clamp (show j < 2 ^ 31 by omega), hst]
  refine ⟨vp_in_nI hj (by omega), nm_e ?_⟩
  rw [nI_clamp (show p < 2 ^ 31 by omega), show nI p + 1 = nI (p + 1) from nI_1 p, nI_clamp (show p + 1 < 2 ^ 31 by omega)]
  refine ⟨vp_in_nI (by omega) (by omega), zy_digit ?_⟩
  rw [hd]
  refine nm_r (e' := nI (p + 3 + zb_cnt (bt (a_w (p + 2))) 0)) (nI_add p 3) ⟨vp_in_nI (by omega) (by omega), vp_in_nI (by omega) (by omega), zy_three (fun t ht => ⟨17, ?_⟩)⟩
  exact zy_rehash_l hn hb H 16 0 t rfl ht
theorem zy_climb_l {post : Int32 → SY → Prop} {ck : Nat} {S : Nat → Nat} (hck : f_ck = nI ck) : ∀ c n x tn t, c ≤ 5 → c < n → (∀ j, j < c → a_start j = nI (S j) ∧ S j ≤ 80) → (∀ tn t, post (zr_climb f_seed f_bits a_w (nI ck) S c x) (f_capacity, f_seed, f_bits, f_count, tn, f_proofLen, f_proofNodes, f_claim, f_ck, f_wn, f_nodes, f_claimed, a_keys, a_vals, a_dig, t, a_proof, a_proofStart, a_w, a_start)) → wY_climb_2 post n x (nI c + (-1)) f_capacity f_seed f_bits f_count tn f_proofLen f_proofNodes f_claim f_ck f_wn f_nodes f_claimed a_keys a_vals a_dig t a_proof a_proofStart a_w a_start := by
  subst hck
  intro c
  induction c with
  | zero =>
    intro n x tn t _ hn _ H
    obtain ⟨n, rfl⟩ : ∃ m, n = m + 1 := ⟨n - 1, by omega⟩
    exact br_t (by decide) (H tn t)
  | succ c ih =>
    intro n x tn t hc hn hs H
    obtain ⟨n, rfl⟩ : ∃ m, n = m + 1 := ⟨n - 1, by omega⟩
    obtain ⟨s1, s2⟩ := hs c (by omega)
    obtain ⟨d1, d2⟩ := zr_n_D (nI ck) (a_w (S c))
    rw [pk_m1]
    refine br_f (nI_pos (by omega)) ⟨vp_in_nI (by omega) (by omega), ?_⟩
    rw [nI_clamp (by omega), s1, show nI (S c) + 2 = nI (S c + 2) from nI_add _ 2, nI_clamp (by omega)]
    refine ⟨vp_in_nI (by omega) (by omega), zy_rehash (by omega) s1 d2 d1 s2 (fun tn t => nm_e (ih n _ tn t (by omega) (by omega) (fun j hj => hs j (by omega)) H))⟩
theorem zy_climb {post : Int32 → SY → Prop} {ck c : Nat} {S : Nat → Nat} {x y : Int32} (hck : f_ck = nI ck) (hc : c ≤ 5) (hs : ∀ j, j < c → a_start j = nI (S j) ∧ S j ≤ 80) (hy : y = nI c + (-1)) (H : ∀ tn t, post (zr_climb f_seed f_bits a_w (nI ck) S c x) (f_capacity, f_seed, f_bits, f_count, tn, f_proofLen, f_proofNodes, f_claim, f_ck, f_wn, f_nodes, f_claimed, a_keys, a_vals, a_dig, t, a_proof, a_proofStart, a_w, a_start)) : wpY_climb post (f_capacity, f_seed, f_bits, f_count, f_tn, f_proofLen, f_proofNodes, f_claim, f_ck, f_wn, f_nodes, f_claimed, a_keys, a_vals, a_dig, a_t, a_proof, a_proofStart, a_w, a_start) y x := by
  subst hy
  exact ⟨c + 1, zy_climb_l hck c (c + 1) x f_tn a_t hc (by omega) hs H⟩
end
end
section
/-! rootAfterPut, rootAfterRemove -/
def zr_split (s b ck q f g : Int32) : Int32 := zh_H s b [2 + nI (zb_fork q ck), zb_P ck (nI (zb_fork q ck)), ((1 : Int32) <<< (zb_D ck (nI (zb_fork q ck)) &&& 31)) ||| ((1 : Int32) <<< (zb_D q (nI (zb_fork q ck)) &&& 31)),
  if zb_D q (nI (zb_fork q ck)) ≤ zb_D ck (nI (zb_fork q ck)) then g else f, if zb_D q (nI (zb_fork q ck)) ≤ zb_D ck (nI (zb_fork q ck)) then f else g]
def zr_c (s b : Int32) (w : Nat → Int32) (ck : Int32) (p : Nat) (e st f : Int32) : Int32 :=
  if st = 2 ∨ w p = 0 then f else if ¬ w p = 1 ∧ w (p + 1) = zb_P ck (w p - 2) then zr_E s b w p (w (p + 2) ||| ((1 : Int32) <<< (nI (zr_n ck (w p)) &&& 31))) (zr_n ck (w p)) f else zr_split s b ck (w (p + 1)) f e
theorem zr_c_f {s b : Int32} {w : Nat → Int32} {ck : Int32} {p : Nat} {e st f : Int32} (h : st = 2 ∨ w p = 0) : zr_c s b w ck p e st f = f := if_pos h
theorem zr_c_E {s b : Int32} {w : Nat → Int32} {ck : Int32} {p : Nat} {e st f : Int32} (h : ¬ (st = 2 ∨ w p = 0)) (h1 : ¬ w p = 1) (h2 : w (p + 1) = zb_P ck (w p - 2)) :
    zr_c s b w ck p e st f = zr_E s b w p (w (p + 2) ||| ((1 : Int32) <<< (nI (zr_n ck (w p)) &&& 31))) (zr_n ck (w p)) f := by
  unfold zr_c; rw [if_neg h, if_pos ⟨h1, h2⟩]
theorem zr_c_s {s b : Int32} {w : Nat → Int32} {ck : Int32} {p : Nat} {e st f : Int32} (h : ¬ (st = 2 ∨ w p = 0)) (h1 : ¬ (¬ w p = 1 ∧ w (p + 1) = zb_P ck (w p - 2))) : zr_c s b w ck p e st f = zr_split s b ck (w (p + 1)) f e := by
  unfold zr_c; rw [if_neg h, if_neg h1]
theorem zr_or_sub {m : Int32} {n : Nat} (hn : n < 16) : ∀ v, v < 16 → v ≠ n → bt (m ||| ((1 : Int32) <<< (nI n &&& 31))) v = true → bt m v = true := by
  intro v hv hne h
  rw [b_or, zb_bit1 (by omega) (by omega), decide_eq_false hne, Bool.or_false] at h
  exact h
theorem zr_and_sub {m : Int32} {n : Nat} : ∀ v, v < 16 → v ≠ n → bt (m &&& (((1 : Int32) <<< (nI n &&& 31)) ^^^ (-1))) v = true → bt m v = true := by
  intro v hv hne h
  rw [b_and, Bool.and_eq_true] at h
  exact h.1
def zr_lp (q ck : Int32) : Nat → Nat → Nat
  | 0, e => e
  | c + 1, e => zr_lp q ck c (if zb_D q (nI c) = zb_D ck (nI c) then e else c)
theorem zr_lp_fork {q ck : Int32} (h : ¬ (zb_D q 0 = zb_D ck 0 ∧ zb_D q 1 = zb_D ck 1 ∧ zb_D q 2 = zb_D ck 2 ∧ zb_D q 3 = zb_D ck 3)) : zr_lp q ck 4 0 = zb_fork q ck := by
  rw [zr_lp, zr_lp, zr_lp, zr_lp, zr_lp]
  unfold zb_fork
  rw [show nI 3 = 3 from rfl, show nI 2 = 2 from rfl, show nI 1 = 1 from rfl, show nI 0 = 0 from rfl]
  by_cases h0 : zb_D q 0 = zb_D ck 0
  · rw [if_pos h0, if_pos h0]
    by_cases h1 : zb_D q 1 = zb_D ck 1
    · rw [if_pos h1, if_pos h1]
      by_cases h2 : zb_D q 2 = zb_D ck 2
      · rw [if_pos h2, if_pos h2, if_neg (fun h3 => h ⟨h0, h1, h2, h3⟩)]
      · rw [if_neg h2, if_neg h2]
    · rw [if_neg h1, if_neg h1]
  · rw [if_neg h0, if_neg h0]
theorem zr_dig {q : Int32} {ck : Nat} (hk : ck < 65536) (hq : zb_K q) (h : zb_D q 0 = zb_D (nI ck) 0 ∧ zb_D q 1 = zb_D (nI ck) 1 ∧ zb_D q 2 = zb_D (nI ck) 2 ∧ zb_D q 3 = zb_D (nI ck) 3) : q = nI ck := by
  obtain ⟨k, hk2, rfl⟩ := zb_K_of hq
  obtain ⟨d0, d1, d2, d3⟩ := h
  rw [show (0 : Int32) = nI (3 - 3) from rfl, zb_D_nI hk2 (by omega), zb_D_nI hk (by omega), nI_eq (by omega) (by omega), show 16 ^ 3 = 4096 from rfl] at d0
  rw [show (1 : Int32) = nI (3 - 2) from rfl, zb_D_nI hk2 (by omega), zb_D_nI hk (by omega), nI_eq (by omega) (by omega), show 16 ^ 2 = 256 from rfl] at d1
  rw [show (2 : Int32) = nI (3 - 1) from rfl, zb_D_nI hk2 (by omega), zb_D_nI hk (by omega), nI_eq (by omega) (by omega), show 16 ^ 1 = 16 from rfl] at d2
  rw [show (3 : Int32) = nI (3 - 0) from rfl, zb_D_nI hk2 (by omega), zb_D_nI hk (by omega), nI_eq (by omega) (by omega), show 16 ^ 0 = 1 from rfl] at d3
  exact congrArg nI (by omega)
section
variable {f_capacity f_seed f_bits f_freeCount f_top f_pairs f_pathLen f_status f_claimRoot f_claimKey f_fedLen f_node f_need f_running f_expected f_level : Int32} {a_tag a_second a_third a_hash a_kids a_freeIds a_path a_fed a_starts : Nat → Int32}
theorem zx_splitHash {post : Int32 → Prop} {q f : Int32} (H : post (zr_split f_seed f_bits f_claimKey q f f_expected)) : wpX_splitHash post (f_capacity, f_seed, f_bits, f_freeCount, f_top, f_pairs, f_pathLen, f_status, f_claimRoot, f_claimKey, f_fedLen, f_node, f_need, f_running, f_expected, f_level, a_tag, a_second, a_third, a_hash, a_kids, a_freeIds, a_path, a_fed, a_starts) q f := by
  unfold zr_split zh_H at H
  rw [List.foldl_cons, List.foldl_cons, List.foldl_cons, List.foldl_cons, List.foldl_cons, List.foldl_nil] at H
  unfold wpX_splitHash
  refine zx_fork ?_
  refine zx_digit ?_
  refine zx_digit ?_
  refine zx_prefix ?_
  refine zx_mix3 ?_
  by_cases h : zb_D q (nI (zb_fork q f_claimKey)) ≤ zb_D f_claimKey (nI (zb_fork q f_claimKey))
  · rw [if_pos h, if_pos h] at H
    refine br_t h ?_
    unfold wX_splitHash_78
    refine zx_mix (br_t h ?_)
    unfold wX_splitHash_101
    exact zx_mix (zx_finish H)
  · rw [if_neg h, if_neg h] at H
    refine br_f h ?_
    unfold wX_splitHash_78
    refine zx_mix (br_f h ?_)
    unfold wX_splitHash_101
    exact zx_mix (zx_finish H)
theorem zx_lastAfterPut {post : Int32 → Prop} {N p : Nat} {f : Int32} (hN : N < 5) (hnode : f_node = nI N) (hst : a_starts N = nI p) (hp : p + zv_len a_fed p ≤ 79) (g : a_fed p = 0 ∨ a_fed p = 1 ∨ ∃ d, d ≤ 3 ∧ a_fed p = nI (2 + d))
    (H : post (zr_c f_seed f_bits a_fed f_claimKey p f_expected f_status f)) : wpX_lastAfterPut post (f_capacity, f_seed, f_bits, f_freeCount, f_top, f_pairs, f_pathLen, f_status, f_claimRoot, f_claimKey, f_fedLen, f_node, f_need, f_running, f_expected, f_level, a_tag, a_second, a_third, a_hash, a_kids, a_freeIds, a_path, a_fed, a_starts) f := by
  subst hnode
  have hcp : (nI p).toNatClampNeg = p := nI_clamp (by omega)
  have hl := zv_len_ge a_fed p
  have vp : vp_in (nI p) 79 := vp_in_nI (by omega) (by omega)
  unfold wpX_lastAfterPut
  dsimp only
  rw [nI_clamp (by omega), hst]
  refine ⟨vp_in_nI hN (by omega), nm_e ?_⟩
  rw [hcp, show nI p + 1 = nI (p + 1) from nI_1 p, show nI p + 2 = nI (p + 2) from nI_add p 2]
  refine br_c (fun h => ?_) (fun h => ⟨vp, br_c (fun h0 => ?_) (fun h0 => ⟨vp, nm_e ?_⟩)⟩)
  · rw [zr_c_f (Or.inl h)] at H; exact H
  · rw [zr_c_f (Or.inr h0)] at H; exact H
  · have hno : ¬ (f_status = 2 ∨ a_fed p = 0) := fun z => z.elim h h0
    have hsp : zv_len a_fed p ≥ 3 → ¬ (¬ a_fed p = 1 ∧ a_fed (p + 1) = zb_P f_claimKey (a_fed p - 2)) → wX_lastAfterPut_96 post f (nI p) f_capacity f_seed f_bits f_freeCount f_top f_pairs f_pathLen f_status f_claimRoot f_claimKey f_fedLen (nI N) f_need f_running f_expected f_level a_tag a_second a_third a_hash a_kids a_freeIds a_path a_fed a_starts := by
      intro h3 h4
      rw [zr_c_s hno h4] at H
      unfold wX_lastAfterPut_96
      rw [show nI p + 1 = nI (p + 1) from nI_1 p, nI_clamp (by omega)]
      exact ⟨vp_in_nI (by omega) (by omega), zx_splitHash H⟩
    rcases g with z | z | ⟨d, d2, z⟩
    · exact absurd z h0
    · have hl3 : zv_len a_fed p = 3 := by unfold zv_len; rw [if_neg h0, if_pos z]
      refine br_t (by rw [z]; decide) (hsp (by omega) (fun y => y.1 z))
    · have hl3 := zv_len_b d2 z
      have hn1 := (zv_a01 d2).2
      rw [← z] at hn1
      obtain ⟨d3, d4⟩ := zr_n_D f_claimKey (a_fed p)
      refine br_f (by rw [z, zv_am2]; exact nI_pos (by omega)) ⟨vp_in_nI (by omega) (by omega), zx_prefix ?_⟩
      rw [nI_clamp (show p + 1 < 2 ^ 31 by omega), nI_clamp (show p + 2 < 2 ^ 31 by omega)]
      refine br_c (fun h4 => zx_digit ?_) (fun h4 => hsp (by omega) (fun y => h4 y.2))
      rw [zr_c_E hno hn1 h4] at H
      rw [d3]
      exact nm_e ⟨vp_in_nI (by omega) (by omega), zx_edited hN hst d4 d3 (by omega) (zr_or_sub d4) H⟩
theorem zx_accepted {post : Int32 → Prop} (a : (f_status = 2 ∨ f_status = 3) → post 1) (b : ¬ (f_status = 2 ∨ f_status = 3) → post 0) : wpX_accepted post (f_capacity, f_seed, f_bits, f_freeCount, f_top, f_pairs, f_pathLen, f_status, f_claimRoot, f_claimKey, f_fedLen, f_node, f_need, f_running, f_expected, f_level, a_tag, a_second, a_third, a_hash, a_kids, a_freeIds, a_path, a_fed, a_starts) :=
  br_c (fun h => a (Or.inl h)) (fun h => br_c (fun h2 => a (Or.inr h2)) (fun h2 => b (fun z => z.elim h h2)))
theorem zx_rootAfterPut_no {post : Int64 → Prop} {v : Int32} (h : ¬ (f_status = 2 ∨ f_status = 3)) (H : post 4294967296) : wpX_rootAfterPut post (f_capacity, f_seed, f_bits, f_freeCount, f_top, f_pairs, f_pathLen, f_status, f_claimRoot, f_claimKey, f_fedLen, f_node, f_need, f_running, f_expected, f_level, a_tag, a_second, a_third, a_hash, a_kids, a_freeIds, a_path, a_fed, a_starts) v := by
  unfold wpX_rootAfterPut
  exact zx_accepted (fun z => absurd z h) (fun _ => br_t rfl H)
theorem zx_rootAfterPut {post : Int64 → Prop} {ck N : Nat} {v : Int32} {S : Nat → Nat} (h : f_status = 2 ∨ f_status = 3) (hN : N < 5) (hnode : f_node = nI N) (hck : f_claimKey = nI ck) (hst : ∀ j, j ≤ N → a_starts j = nI (S j)) (hp : S N + zv_len a_fed (S N) ≤ 79)
    (g : a_fed (S N) = 0 ∨ a_fed (S N) = 1 ∨ ∃ d, d ≤ 3 ∧ a_fed (S N) = nI (2 + d)) (hb : ∀ j, j < N → S j + 3 + zb_cnt (bt (a_fed (S j + 2))) 16 ≤ 79)
    (H : post (zr_climb f_seed f_bits a_fed (nI ck) S N (zr_c f_seed f_bits a_fed (nI ck) (S N) f_expected f_status (zh_H f_seed f_bits [1, nI ck, v]))).toInt64) : wpX_rootAfterPut post (f_capacity, f_seed, f_bits, f_freeCount, f_top, f_pairs, f_pathLen, f_status, f_claimRoot, f_claimKey, f_fedLen, f_node, f_need, f_running, f_expected, f_level, a_tag, a_second, a_third, a_hash, a_kids, a_freeIds, a_path, a_fed, a_starts) v := by
  unfold wpX_rootAfterPut
  refine zx_accepted (fun _ => br_f zb_1ne0 ?_) (fun z => absurd h z)
  refine zx_mix3 ?_
  refine zx_finish ?_
  rw [← hck] at H
  refine zx_lastAfterPut hN hnode (hst N (Nat.le_refl _)) hp g ?_
  refine zx_climb (ck := ck) (c := N) (S := S) hck (by omega) (fun j hj => ⟨hst j (by omega), hb j hj⟩) (by rw [hnode, zb_sub1]) ?_
  rw [← hck]
  exact H
end
def zr_rem (s b : Int32) (w : Nat → Int32) (ck : Int32) (p : Nat) : Int32 := if zb_cnt (bt (w (p + 2))) 16 = 2 then w (p + 4 - zb_cnt (bt (w (p + 2))) (zr_n ck (w p))) else zr_E s b w p (w (p + 2) &&& (((1 : Int32) <<< (nI (zr_n ck (w p)) &&& 31)) ^^^ (-1))) (zr_n ck (w p)) 0
section
variable {f_capacity f_seed f_bits f_freeCount f_top f_pairs f_pathLen f_status f_claimRoot f_claimKey f_fedLen f_node f_need f_running f_expected f_level : Int32} {a_tag a_second a_third a_hash a_kids a_freeIds a_path a_fed a_starts : Nat → Int32}
theorem zx_parentAfterRemove {post : Int32 → Prop} {j p : Nat} (hj : j < 5) (hst : a_starts j = nI p) (hb : p + 3 + zb_cnt (bt (a_fed (p + 2))) 16 ≤ 79) (hbit : bt (a_fed (p + 2)) (zr_n f_claimKey (a_fed p)) = true)
    (H : post (zr_rem f_seed f_bits a_fed f_claimKey p)) : wpX_parentAfterRemove post (f_capacity, f_seed, f_bits, f_freeCount, f_top, f_pairs, f_pathLen, f_status, f_claimRoot, f_claimKey, f_fedLen, f_node, f_need, f_running, f_expected, f_level, a_tag, a_second, a_third, a_hash, a_kids, a_freeIds, a_path, a_fed, a_starts) (nI j) := by
  obtain ⟨d3, d4⟩ := zr_n_D f_claimKey (a_fed p)
  have hc := zb_cnt_lt (bt (a_fed (p + 2))) d4 hbit
  have hle := zb_cnt_le (bt (a_fed (p + 2))) 16
  unfold wpX_parentAfterRemove
  dsimp only
  rw [nI_clamp (by omega), hst]
  refine ⟨vp_in_nI hj (by omega), nm_e ?_⟩
  rw [nI_clamp (show p < 2 ^ 31 by omega), show nI p + 2 = nI (p + 2) from nI_add p 2, show nI p + 4 = nI (p + 4) from nI_add p 4, nI_clamp (show p + 2 < 2 ^ 31 by omega)]
  refine ⟨vp_in_nI (by omega) (by omega), nm_e ⟨vp_in_nI (by omega) (by omega), zx_digit (zx_bitCount ?_)⟩⟩
  rw [d3]
  unfold zr_rem at H
  by_cases h2 : zb_cnt (bt (a_fed (p + 2))) 16 = 2
  · rw [if_pos h2] at H
    refine br_t (by rw [h2]; rfl) (zx_rank d4 ?_)
    rw [pk_sub (by omega), nI_clamp (by omega)]
    exact ⟨vp_in_nI (by omega) (by omega), H⟩
  · rw [if_neg h2] at H
    refine br_f (by rw [show (2 : Int32) = nI 2 from rfl, nI_eq (by omega) (by omega)]; exact h2) (zx_edited hj hst d4 d3 hb zr_and_sub H)
theorem zx_rootAfterRemove_no {post : Int64 → Prop} (h : ¬ (f_status = 2 ∨ f_status = 3)) (H : post 4294967296) : wpX_rootAfterRemove post (f_capacity, f_seed, f_bits, f_freeCount, f_top, f_pairs, f_pathLen, f_status, f_claimRoot, f_claimKey, f_fedLen, f_node, f_need, f_running, f_expected, f_level, a_tag, a_second, a_third, a_hash, a_kids, a_freeIds, a_path, a_fed, a_starts) := by
  unfold wpX_rootAfterRemove
  exact zx_accepted (fun z => absurd z h) (fun _ => br_t rfl H)
theorem zx_rootAfterRemove_3 {post : Int64 → Prop} (h : f_status = 3) (H : post f_claimRoot.toInt64) : wpX_rootAfterRemove post (f_capacity, f_seed, f_bits, f_freeCount, f_top, f_pairs, f_pathLen, f_status, f_claimRoot, f_claimKey, f_fedLen, f_node, f_need, f_running, f_expected, f_level, a_tag, a_second, a_third, a_hash, a_kids, a_freeIds, a_path, a_fed, a_starts) := by
  unfold wpX_rootAfterRemove
  exact zx_accepted (fun _ => br_f zb_1ne0 (br_t h H)) (fun z => absurd (Or.inr h) z)
theorem zx_rootAfterRemove_0 {post : Int64 → Prop} (h : f_status = 2) (hn : f_node = 0) (H : post (a_hash 0).toInt64) : wpX_rootAfterRemove post (f_capacity, f_seed, f_bits, f_freeCount, f_top, f_pairs, f_pathLen, f_status, f_claimRoot, f_claimKey, f_fedLen, f_node, f_need, f_running, f_expected, f_level, a_tag, a_second, a_third, a_hash, a_kids, a_freeIds, a_path, a_fed, a_starts) := by
  unfold wpX_rootAfterRemove
  exact zx_accepted (fun _ => br_f zb_1ne0 (br_f (by rw [h]; decide) (br_t hn H))) (fun z => absurd (Or.inl h) z)
theorem zx_rootAfterRemove_1 {post : Int64 → Prop} {ck M : Nat} {S : Nat → Nat} (h : f_status = 2) (hM : M + 1 < 5) (hnode : f_node = nI (M + 1)) (hck : f_claimKey = nI ck) (hst : ∀ j, j ≤ M → a_starts j = nI (S j)) (hb : ∀ j, j ≤ M → S j + 3 + zb_cnt (bt (a_fed (S j + 2))) 16 ≤ 79)
    (hbit : bt (a_fed (S M + 2)) (zr_n (nI ck) (a_fed (S M))) = true) (H : post (zr_climb f_seed f_bits a_fed (nI ck) S M (zr_rem f_seed f_bits a_fed (nI ck) (S M))).toInt64) : wpX_rootAfterRemove post (f_capacity, f_seed, f_bits, f_freeCount, f_top, f_pairs, f_pathLen, f_status, f_claimRoot, f_claimKey, f_fedLen, f_node, f_need, f_running, f_expected, f_level, a_tag, a_second, a_third, a_hash, a_kids, a_freeIds, a_path, a_fed, a_starts) := by
  subst hnode
  have e1 : nI (M + 1) - 1 = nI M := nI_pred M
  have e2 : nI (M + 1) - 2 = nI M + (-1) := by
    rw [← zb_sub1, ← e1, Int32.sub_sub]; rfl
  unfold wpX_rootAfterRemove
  refine zx_accepted (fun _ => br_f zb_1ne0 (br_f (by rw [h]; decide) (br_f (nI_ne0 (by omega) (by omega)) ?_))) (fun z => absurd (Or.inl h) z)
  rw [← hck] at H hbit
  rw [e1]
  refine zx_parentAfterRemove (by omega) (hst M (Nat.le_refl _)) (hb M (Nat.le_refl _)) hbit ?_
  refine zx_climb (ck := ck) (c := M) (S := S) hck (by omega) (fun j hj => ⟨hst j (by omega), hb j (by omega)⟩) e2 ?_
  rw [← hck]
  exact H
end
end
section
/-! Y's rootAfterPut, rootAfterRemove -/
section
variable {f_capacity f_seed f_bits f_count f_tn f_proofLen f_proofNodes f_claim f_ck f_wn f_nodes f_claimed : Int32} {a_keys a_vals a_dig a_t a_proof a_proofStart a_w a_start : Nat → Int32}
theorem zy_rap294 {post : Int64 → SY → Prop} {ck N : Nat} {S : Nat → Nat} {x : Int32} (hck : f_ck = nI ck) (hN : N < 5) (hs : ∀ j, j < N → a_start j = nI (S j) ∧ S j ≤ 80) (H : ∀ tn t, post (zr_climb f_seed f_bits a_w (nI ck) S N x).toInt64 (f_capacity, f_seed, f_bits, f_count, tn, f_proofLen, f_proofNodes, f_claim, f_ck, f_wn, f_nodes, f_claimed, a_keys, a_vals, a_dig, t, a_proof, a_proofStart, a_w, a_start)) : wY_rootAfterPut_294 post (nI N) x f_capacity f_seed f_bits f_count f_tn f_proofLen f_proofNodes f_claim f_ck f_wn f_nodes f_claimed a_keys a_vals a_dig a_t a_proof a_proofStart a_w a_start := by
  unfold wY_rootAfterPut_294
  refine zy_climb (ck := ck) (c := N) (S := S) hck (by omega) hs (by rw [zb_sub1]) ?_
  exact H
theorem zy_rap222 {post : Int64 → SY → Prop} {x3 x4 x7 f g P a b : Int32} (h7 : ¬ x7 < -1)
    (H : ∀ tn t, wY_rootAfterPut_294 post x3 (zh_H f_seed f_bits [2 + x4, P, ((1 : Int32) <<< (a &&& 31)) ||| ((1 : Int32) <<< (b &&& 31)), if b ≤ a then g else f, if b ≤ a then f else g]) f_capacity f_seed f_bits f_count tn f_proofLen f_proofNodes f_claim f_ck f_wn f_nodes f_claimed a_keys a_vals a_dig t a_proof a_proofStart a_w a_start) : wY_rootAfterPut_222 post 3 x3 x4 x7 f g f P a b f_capacity f_seed f_bits f_count f_tn f_proofLen f_proofNodes f_claim f_ck f_wn f_nodes f_claimed a_keys a_vals a_dig a_t a_proof a_proofStart a_w a_start := by
  refine br_t rfl (br_f h7 (zy_three (fun t ht => ?_)))
  by_cases h : b ≤ a
  · rw [if_pos h, if_pos h] at H
    refine br_t h ?_
    unfold wY_rootAfterPut_267
    refine zy_add (ws := [2 + x4, P, ((1 : Int32) <<< (a &&& 31)) ||| ((1 : Int32) <<< (b &&& 31))]) (by show 3 < 20; omega) ht ?_
    intro t1 ht1
    refine br_t h ?_
    unfold wY_rootAfterPut_285
    refine zy_add (ws := [2 + x4, P, ((1 : Int32) <<< (a &&& 31)) ||| ((1 : Int32) <<< (b &&& 31)), g]) (by show 4 < 20; omega) ht1 ?_
    intro t2 ht2
    exact zy_hash (ws := [2 + x4, P, ((1 : Int32) <<< (a &&& 31)) ||| ((1 : Int32) <<< (b &&& 31)), g, f]) (by show 5 ≤ 20; omega) ht2 (H _ _)
  · rw [if_neg h, if_neg h] at H
    refine br_f h ?_
    unfold wY_rootAfterPut_267
    refine zy_add (ws := [2 + x4, P, ((1 : Int32) <<< (a &&& 31)) ||| ((1 : Int32) <<< (b &&& 31))]) (by show 3 < 20; omega) ht ?_
    intro t1 ht1
    refine br_f h ?_
    unfold wY_rootAfterPut_285
    refine zy_add (ws := [2 + x4, P, ((1 : Int32) <<< (a &&& 31)) ||| ((1 : Int32) <<< (b &&& 31)), f]) (by show 4 < 20; omega) ht1 ?_
    intro t2 ht2
    exact zy_hash (ws := [2 + x4, P, ((1 : Int32) <<< (a &&& 31)) ||| ((1 : Int32) <<< (b &&& 31)), f, g]) (by show 5 ≤ 20; omega) ht2 (H _ _)
theorem zy_rap101_l {post : Int64 → SY → Prop} {x2 x3 x5 q x7 x8 x9 x10 x11 : Int32} : ∀ c e m, c ≤ 4 → (∀ m, wY_rootAfterPut_101 post x2 x3 x5 q x7 x8 x9 x10 x11 f_capacity f_seed f_bits f_count f_tn f_proofLen f_proofNodes f_claim f_ck f_wn f_nodes f_claimed a_keys a_vals a_dig a_t a_proof a_proofStart a_w a_start (m + 1) (nI (zr_lp q f_ck c e)) (nI 0 + (-1))) → wY_rootAfterPut_101 post x2 x3 x5 q x7 x8 x9 x10 x11 f_capacity f_seed f_bits f_count f_tn f_proofLen f_proofNodes f_claim f_ck f_wn f_nodes f_claimed a_keys a_vals a_dig a_t a_proof a_proofStart a_w a_start (m + c + 1) (nI e) (nI c + (-1)) := by
  intro c
  induction c with
  | zero => intro e m _ K; exact K m
  | succ c ih =>
    intro e m hc K
    rw [zr_lp] at K
    rw [pk_m1, show m + (c + 1) + 1 = (m + c + 1) + 1 by omega]
    refine br_f (nI_pos (by omega)) (zy_digit (zy_digit (br_c (fun h => nm_e ?_) (fun h => nm_e ?_))))
    · rw [if_pos h] at K; exact ih e m (by omega) K
    · rw [if_neg h] at K; exact ih c m (by omega) K
theorem zy_rap_end {post : Int64 → SY → Prop} {ck N p e m n : Nat} {S : Nat → Nat} {st f E : Int32} (hk : ck < 65536) (hck : f_ck = nI ck) (hN : N < 5) (hs : ∀ j, j ≤ N → a_start j = nI (S j) ∧ S j ≤ 80) (hpS : S N = p) (hst : st = 2 ∨ st = 3)
    (hn : n = zr_n (nI ck) (a_w p)) (g : a_w p = 0 ∨ a_w p = 1 ∨ ∃ d, d ≤ 3 ∧ a_w p = nI (2 + d))
    (he : ¬ (st = 2 ∨ a_w p = 0) → ¬ (¬ a_w p = 1 ∧ a_w (p + 1) = zb_P (nI ck) (a_w p - 2)) → e = zb_fork (a_w (p + 1)) (nI ck))
    (H : ∀ tn t, post (zr_climb f_seed f_bits a_w (nI ck) S N (zr_c f_seed f_bits a_w (nI ck) p E st f)).toInt64 (f_capacity, f_seed, f_bits, f_count, tn, f_proofLen, f_proofNodes, f_claim, f_ck, f_wn, f_nodes, f_claimed, a_keys, a_vals, a_dig, t, a_proof, a_proofStart, a_w, a_start)) :
    wY_rootAfterPut_101 post st (nI N) (nI p) (a_w (p + 1)) (a_w p - 2) (nI n) f E f f_capacity f_seed f_bits f_count f_tn f_proofLen f_proofNodes f_claim f_ck f_wn f_nodes f_claimed a_keys a_vals a_dig a_t a_proof a_proofStart a_w a_start (m + 1) (nI e) (nI 0 + (-1)) := by
  have hs' : ∀ j, j < N → a_start j = nI (S j) ∧ S j ≤ 80 := fun j hj => hs j (by omega)
  obtain ⟨s1, s2⟩ := hs N (Nat.le_refl _)
  rw [hpS] at s1 s2
  refine br_t (by decide) (zy_prefix (zy_digit (zy_digit ?_)))
  have split : st = 3 → ¬ a_w p = 0 → ¬ (¬ a_w p = 1 ∧ a_w (p + 1) = zb_P (nI ck) (a_w p - 2)) → ¬ a_w p - 2 < -1 → wY_rootAfterPut_222 post st (nI N) (nI e) (a_w p - 2) f E f (zb_P f_ck (nI e)) (zb_D f_ck (nI e)) (zb_D (a_w (p + 1)) (nI e)) f_capacity f_seed f_bits f_count f_tn f_proofLen f_proofNodes f_claim f_ck f_wn f_nodes f_claimed a_keys a_vals a_dig a_t a_proof a_proofStart a_w a_start := by
    intro h3 h0 h1 h7
    subst h3
    have hno : ¬ ((3 : Int32) = 2 ∨ a_w p = 0) := fun z => z.elim (by decide) h0
    have he := he hno h1
    subst he
    rw [zr_c_s hno h1] at H
    refine zy_rap222 h7 ?_
    intro tn t
    refine zy_rap294 hck hN hs' ?_
    intro tn t
    rw [hck]
    rw [hck] at H
    exact H tn t
  have same : ∀ tn t, zr_c f_seed f_bits a_w (nI ck) p E st f = f → wY_rootAfterPut_294 post (nI N) f f_capacity f_seed f_bits f_count tn f_proofLen f_proofNodes f_claim f_ck f_wn f_nodes f_claimed a_keys a_vals a_dig t a_proof a_proofStart a_w a_start := by
    intro tn t h
    rw [h] at H
    exact zy_rap294 hck hN hs' H
  rcases hst with rfl | rfl
  · exact br_f (by decide) (br_f (by decide) (same _ _ (zr_c_f (Or.inl rfl))))
  · refine br_t rfl ?_
    rcases g with z | z | ⟨d, d2, z⟩
    · refine br_t (by rw [z]; decide) (br_t rfl (br_t (by rw [z]; decide) (same _ _ (zr_c_f (Or.inr z)))))
    · exact br_t (by rw [z]; decide) (split rfl (by rw [z]; decide) (fun y => y.1 z) (by rw [z]; decide))
    · have na := zv_a01 d2
      rw [← z] at na
      have h7 : ¬ a_w p - 2 < 0 := by rw [z, zv_am2]; exact nI_pos (by omega)
      have h8 : ¬ a_w p - 2 < -1 := by
        intro y
        apply h7
        rw [Int32.lt_iff_toInt_lt] at y ⊢
        rw [show (-1 : Int32).toInt = -1 from by decide] at y
        rw [show (0 : Int32).toInt = 0 from by decide]
        omega
      refine br_f h7 (zy_prefix (br_c (fun h => ?_) (fun h => split rfl na.1 (fun y => h (by rw [hck]; exact y.2)) h8)))
      have hno : ¬ ((3 : Int32) = 2 ∨ a_w p = 0) := fun z => z.elim (by decide) na.1
      obtain ⟨d3, d4⟩ := zr_n_D (nI ck) (a_w p)
      rw [zr_c_E hno na.2 (by rw [hck] at h; exact h)] at H
      subst hn
      rw [show nI p + 2 = nI (p + 2) from nI_add p 2, nI_clamp (by omega)]
      refine ⟨vp_in_nI (by omega) (by omega), zy_rehash (by omega) s1 d4 (by rw [hck]; exact d3) s2 ?_⟩
      intro tn t
      exact zy_rap294 hck hN hs' H
theorem zy_rap29 {post : Int64 → SY → Prop} {ck N p wn : Nat} {S : Nat → Nat} {st v E : Int32} (hk : ck < 65536) (hck : f_ck = nI ck) (hN : N < 5) (hs : ∀ j, j ≤ N → a_start j = nI (S j) ∧ S j ≤ 80) (hpS : S N = p) (hst : st = 2 ∨ st = 3)
    (hs1 : a_start (N + 1) = nI wn) (hw : p ≤ wn) (hw2 : wn ≤ 79) (hw3 : wn - p ≤ 20) (hE : zh_H f_seed f_bits (zy_seg a_w p (wn - p)) = E) (g : a_w p = 0 ∨ a_w p = 1 ∨ ∃ d, d ≤ 3 ∧ a_w p = nI (2 + d))
    (he : ¬ (st = 2 ∨ a_w p = 0) → ¬ (¬ a_w p = 1 ∧ a_w (p + 1) = zb_P (nI ck) (a_w p - 2)) → zr_lp (a_w (p + 1)) (nI ck) 4 0 = zb_fork (a_w (p + 1)) (nI ck))
    (H : ∀ tn t, post (zr_climb f_seed f_bits a_w (nI ck) S N (zr_c f_seed f_bits a_w (nI ck) p E st (zh_H f_seed f_bits [1, nI ck, v]))).toInt64 (f_capacity, f_seed, f_bits, f_count, tn, f_proofLen, f_proofNodes, f_claim, f_ck, f_wn, f_nodes, f_claimed, a_keys, a_vals, a_dig, t, a_proof, a_proofStart, a_w, a_start)) : wY_rootAfterPut_29 post v st (nI N) 0 f_capacity f_seed f_bits f_count f_tn f_proofLen f_proofNodes f_claim f_ck f_wn f_nodes f_claimed a_keys a_vals a_dig a_t a_proof a_proofStart a_w a_start := by
  obtain ⟨s1, s2⟩ := hs N (Nat.le_refl _)
  rw [hpS] at s1 s2
  obtain ⟨d3, d4⟩ := zr_n_D (nI ck) (a_w p)
  unfold wY_rootAfterPut_29
  rw [nI_clamp (show N < 2 ^ 31 by omega), s1]
  refine ⟨vp_in_nI (by omega) (by omega), nm_e ?_⟩
  rw [nI_clamp (show p < 2 ^ 31 by omega), show nI p + 1 = nI (p + 1) from nI_1 p, nI_clamp (show p + 1 < 2 ^ 31 by omega)]
  refine ⟨vp_in_nI (by omega) (by omega), nm_e ⟨vp_in_nI (by omega) (by omega), nm_e (zy_digit ?_)⟩⟩
  refine zy_three (fun t ht => ?_)
  refine zy_hash (ws := [1, f_ck, v]) (by show 3 ≤ 20; omega) ht ?_
  refine zy_hashOf (j := N) (q0 := p) (len := wn - p) hN s1 (by rw [show p + (wn - p) = wn by omega]; exact hs1) hw3 (by omega) ?_
  intro t2 _
  refine ⟨0 + 4 + 1, ?_⟩
  rw [hE]
  refine zy_rap101_l 4 0 0 (by omega) ?_
  intro m
  rw [show zb_D f_ck (a_w p - 2) = nI (zr_n (nI ck) (a_w p)) by rw [hck]; exact d3]
  refine zy_rap_end (ck := ck) (p := p) (S := S) hk hck hN hs hpS hst rfl g (fun a b => by rw [hck]; exact he a b) ?_
  rw [hck]
  rw [hck] at H
  exact H
end
end
section
/-! the relation -/
def zz_T (cap seed bits freeCount top pairs : Int32) (tag second third hash kids free : Nat → Int32) (count : Int32) (keys vals ps start : Nat → Int32) : Prop :=
  ∃ (mp : Nat → Option Int32) (nd : Nat → Nat → Nat) (fi : Nat → Nat) (fc n : Nat) (kk : Nat → Nat) (cp : Nat), zt_XS seed bits mp nd fi fc n freeCount top pairs tag second third hash kids free ∧ zy_M mp keys vals n kk ∧ count = nI n ∧ cap = nI cp ∧ cp ≤ 16 ∧ n ≤ cp ∧ ps 0 = 0 ∧ start 0 = 0
def zz_V (seed bits status claimRoot claimKey fedLen node need running expected level : Int32) (fed starts : Nat → Int32) (claimed : Int32) : Prop :=
  ∃ (c m : Nat), c < 65536 ∧ claimKey = nI c ∧ fedLen = nI m ∧ m ≤ 79 ∧ ((status = 0 ∧ claimed = 0) ∨ (¬ claimed = 0 ∧ ¬ status = 0 ∧ ∃ (N : Nat) (S : Nat → Nat) (E : Nat → Int32) (L : Nat → Nat),
    zv_lk node starts expected level N S E L ∧ zv_seq seed bits c claimRoot fed m N S E L ∧ zv_C seed bits c fed (S N) (m - S N) (E N) (L N) N status need running))
def i_Rel (_ : Nat) (u : SX) (v : SY) : Prop := match u with
  | (f_capacity, f_seed, f_bits, f_freeCount, f_top, f_pairs, f_pathLen, f_status, f_claimRoot, f_claimKey, f_fedLen, f_node, f_need, f_running, f_expected, f_level, a_tag, a_second, a_third, a_hash, a_kids, a_freeIds, a_path, a_fed, a_starts) => match v with
    | (g_capacity, g_seed, g_bits, f_count, f_tn, f_proofLen, f_proofNodes, f_claim, f_ck, f_wn, f_nodes, f_claimed, a_keys, a_vals, a_dig, a_t, a_proof, a_proofStart, a_w, a_start) => g_capacity = f_capacity ∧ g_seed = f_seed ∧ g_bits = f_bits ∧ f_claim = f_claimRoot ∧ f_ck = f_claimKey ∧ f_wn = f_fedLen ∧ a_w = a_fed ∧
      zz_T f_capacity f_seed f_bits f_freeCount f_top f_pairs a_tag a_second a_third a_hash a_kids a_freeIds f_count a_keys a_vals a_proofStart a_start ∧
      zz_V f_seed f_bits f_status f_claimRoot f_claimKey f_fedLen f_node f_need f_running f_expected f_level a_fed a_starts f_claimed
theorem i_up {k : Nat} {u : SX} {v : SY} (h : i_Rel k u v) : i_Rel (k + 3) u v := h
theorem zz_el {P : SX → SY → Prop} {k : Nat} {u : SX} {v : SY} (I : i_Rel k u v)
    (h : ∀ (f_capacity f_seed f_bits f_freeCount f_top f_pairs f_pathLen f_status f_claimRoot f_claimKey f_fedLen f_node f_need f_running f_expected f_level f_count f_tn f_proofLen f_proofNodes f_nodes f_claimed : Int32) (a_tag a_second a_third a_hash a_kids a_freeIds a_path a_fed a_starts a_keys a_vals a_dig a_t a_proof a_proofStart a_start : Nat → Int32),
      zz_T f_capacity f_seed f_bits f_freeCount f_top f_pairs a_tag a_second a_third a_hash a_kids a_freeIds f_count a_keys a_vals a_proofStart a_start →
      zz_V f_seed f_bits f_status f_claimRoot f_claimKey f_fedLen f_node f_need f_running f_expected f_level a_fed a_starts f_claimed →
      P (f_capacity, f_seed, f_bits, f_freeCount, f_top, f_pairs, f_pathLen, f_status, f_claimRoot, f_claimKey, f_fedLen, f_node, f_need, f_running, f_expected, f_level, a_tag, a_second, a_third, a_hash, a_kids, a_freeIds, a_path, a_fed, a_starts) (f_capacity, f_seed, f_bits, f_count, f_tn, f_proofLen, f_proofNodes, f_claimRoot, f_claimKey, f_fedLen, f_nodes, f_claimed, a_keys, a_vals, a_dig, a_t, a_proof, a_proofStart, a_fed, a_start)) : P u v := by
  obtain ⟨f_capacity, f_seed, f_bits, f_freeCount, f_top, f_pairs, f_pathLen, f_status, f_claimRoot, f_claimKey, f_fedLen, f_node, f_need, f_running, f_expected, f_level, a_tag, a_second, a_third, a_hash, a_kids, a_freeIds, a_path, a_fed, a_starts⟩ := u
  obtain ⟨g_capacity, g_seed, g_bits, f_count, f_tn, f_proofLen, f_proofNodes, f_claim, f_ck, f_wn, f_nodes, f_claimed, a_keys, a_vals, a_dig, a_t, a_proof, a_proofStart, a_w, a_start⟩ := v
  obtain ⟨h1, h2, h3, h4, h5, h6, h7, h8, h9⟩ := I
  subst h1 h2 h3 h4 h5 h6 h7
  exact h _ _ _ _ _ _ _ _ _ _ _ _ _ _ _ _ _ _ _ _ _ _ _ _ _ _ _ _ _ _ _ _ _ _ _ _ _ _ h8 h9
section
variable {f_capacity f_seed f_bits f_freeCount f_top f_pairs f_pathLen f_status f_claimRoot f_claimKey f_fedLen f_node f_need f_running f_expected f_level f_count f_tn f_proofLen f_proofNodes f_claim f_ck f_wn f_nodes f_claimed : Int32} {a_tag a_second a_third a_hash a_kids a_freeIds a_path a_fed a_starts a_keys a_vals a_dig a_t a_proof a_proofStart a_w a_start : Nat → Int32}
theorem zz_in {k : Nat} (T : zz_T f_capacity f_seed f_bits f_freeCount f_top f_pairs a_tag a_second a_third a_hash a_kids a_freeIds f_count a_keys a_vals a_proofStart a_start)
    (V : zz_V f_seed f_bits f_status f_claimRoot f_claimKey f_fedLen f_node f_need f_running f_expected f_level a_fed a_starts f_claimed) : i_Rel k (f_capacity, f_seed, f_bits, f_freeCount, f_top, f_pairs, f_pathLen, f_status, f_claimRoot, f_claimKey, f_fedLen, f_node, f_need, f_running, f_expected, f_level, a_tag, a_second, a_third, a_hash, a_kids, a_freeIds, a_path, a_fed, a_starts) (f_capacity, f_seed, f_bits, f_count, f_tn, f_proofLen, f_proofNodes, f_claimRoot, f_claimKey, f_fedLen, f_nodes, f_claimed, a_keys, a_vals, a_dig, a_t, a_proof, a_proofStart, a_fed, a_start) :=
  ⟨rfl, rfl, rfl, rfl, rfl, rfl, rfl, T, V⟩
end
end
section
/-! the calls on the map -/
section
variable {f_capacity f_seed f_bits f_freeCount f_top f_pairs f_pathLen f_status f_claimRoot f_claimKey f_fedLen f_node f_need f_running f_expected f_level : Int32} {a_tag a_second a_third a_hash a_kids a_freeIds a_path a_fed a_starts : Nat → Int32}
theorem zx_root {post : Int32 → Prop} {mp : Nat → Option Int32} {nd : Nat → Nat → Nat} {fi : Nat → Nat} {fc n : Nat} (S : zt_XS f_seed f_bits mp nd fi fc n f_freeCount f_top f_pairs a_tag a_second a_third a_hash a_kids a_freeIds)
    (H : post (zh_H f_seed f_bits (zt_rw f_seed f_bits mp))) : wpX_root post (f_capacity, f_seed, f_bits, f_freeCount, f_top, f_pairs, f_pathLen, f_status, f_claimRoot, f_claimKey, f_fedLen, f_node, f_need, f_running, f_expected, f_level, a_tag, a_second, a_third, a_hash, a_kids, a_freeIds, a_path, a_fed, a_starts) := by
  obtain ⟨T, TH, htop, ht0, hh0, F, hfc, hsz, hpr, hn⟩ := S
  subst htop
  unfold zt_rw at H
  by_cases o : zt_oc mp 4 0 = true
  · rw [if_pos o] at H ⊢
    have hr := zt_range T (Nat.le_refl _) o
    rw [← TH 4 0 (Nat.le_refl _) o] at H
    refine ⟨vp_in_nI hr.2 (by omega), ?_⟩
    rw [nI_clamp (by omega)]
    exact H
  · rw [if_neg o] at H ⊢
    rw [← hh0] at H
    refine ⟨vp_in_nI (by omega) (by omega), ?_⟩
    rw [nI_clamp (by omega)]
    exact H
/-- the path, read as words -/
theorem zx_PA_of {mp : Nat → Option Int32} {nd : Nat → Nat → Nat} {fi : Nat → Nat} {fc n k : Nat} {pa : Nat → Int32} (S : zt_XS f_seed f_bits mp nd fi fc n f_freeCount f_top f_pairs a_tag a_second a_third a_hash a_kids a_freeIds) (hk : k < 65536)
    (hp : ∀ i a, (zt_ids mp nd k)[i]? = some a → pa i = nI a) : zx_PA a_tag a_second a_third a_kids a_hash pa (zt_ws f_seed f_bits mp k) ∧ (zt_ids mp nd k).length = (zt_ws f_seed f_bits mp k).length := by
  obtain ⟨T, TH, htop, ht0, hh0, F, hfc, hsz, hpr, hn⟩ := S
  unfold zt_ids at hp ⊢
  unfold zt_ws
  by_cases o : zt_oc mp 4 0 = true
  · rw [if_pos o] at hp ⊢
    rw [if_pos o, List.length_map, List.length_map]
    refine ⟨?_, rfl⟩
    intro i ws hi
    rw [List.getElem?_map] at hi
    cases hq : (zt_pl mp k 4)[i]? with
    | none => rw [hq] at hi; cases hi
    | some a =>
      rw [hq] at hi
      cases hi
      obtain ⟨b1, b2⟩ := zt_pl_oc 4 (by rw [zt_k4 hk]; exact o) a (zt_mem hq)
      exact ⟨nd a (k / 16 ^ a), hp i _ (zt_map_get (f := fun a => nd a (k / 16 ^ a)) hq), zt_W_TH T TH b1 b2⟩
  · rw [if_neg o] at hp ⊢
    rw [if_neg o]
    refine ⟨?_, rfl⟩
    intro i ws hi
    have := zy_T_lt' hi
    have : i = 0 := by rw [List.length_singleton] at this; omega
    subst this
    cases hi
    exact ⟨0, hp 0 0 rfl, by omega, Or.inl ⟨ht0, rfl⟩⟩
end
theorem zt_ws_len (s b : Int32) (mp : Nat → Option Int32) (k : Nat) : 1 ≤ (zt_ws s b mp k).length ∧ (zt_ws s b mp k).length ≤ 5 := by
  unfold zt_ws
  split
  · rw [List.length_map]
    have := zt_pl_len mp k 4
    omega
  · exact ⟨Nat.le_refl _, by show 1 ≤ 5; omega⟩
theorem zt_pl_fl (s b : Int32) (mp : Nat → Option Int32) (k : Nat) : ∀ h, ((zt_pl mp k h).map (fun a => zt_nw s b mp a (k / 16 ^ a))).flatten.length ≤ 19 * h + 3 := by
  intro h
  induction h with
  | zero => rw [zt_pl]; exact Nat.le_refl 3
  | succ h ih =>
    have hl := zt_nw_len s b mp (h + 1) (k / 16 ^ (h + 1))
    rw [zt_pl]
    split
    · split
      · omega
      · rw [List.map_singleton, List.flatten_singleton]; omega
    · rw [List.map_cons, List.flatten_cons, List.length_append]
      split
      · omega
      · rw [List.map_nil, List.flatten_nil, List.length_nil]; omega
theorem zt_ws_fl (s b : Int32) (mp : Nat → Option Int32) (k : Nat) : (zt_ws s b mp k).flatten.length ≤ 79 := by
  unfold zt_ws
  split
  · exact zt_pl_fl s b mp k 4
  · show 1 ≤ 79; omega
theorem i_vc_put {k : Nat} {u : SX} {v : SY} (I : i_Rel k u v) (hk : k + 3 ≤ 1539) (v1 : Int32) (v2 : Int32) : wpX_put (fun r u' => wpY_put (fun r' v' => r' = r ∧ i_Rel (k + 3) u' v') v v1 v2) u v1 v2 := by
  refine zz_el (P := fun u v => wpX_put (fun r u' => wpY_put (fun r' v' => r' = r ∧ i_Rel (k + 3) u' v') v v1 v2) u v1 v2) I ?_
  intro f_capacity f_seed f_bits f_freeCount f_top f_pairs f_pathLen f_status f_claimRoot f_claimKey f_fedLen f_node f_need f_running f_expected f_level f_count f_tn f_proofLen f_proofNodes f_nodes f_claimed a_tag a_second a_third a_hash a_kids a_freeIds a_path a_fed a_starts a_keys a_vals a_dig a_t a_proof a_proofStart a_start T V
  obtain ⟨mp, nd, fi, fc, n, kk, cp, S, M, hc, hcap, h16, hnc, p0, s0⟩ := T
  by_cases hx : zb_K v1
  · obtain ⟨key, hk, rfl⟩ := zb_K_of hx
    refine zx_put S hk hcap h16 hnc ?_ ?_ ?_
    · intro hs pl third hash path S'
      refine zy_put M hc hcap h16 hnc hk (fun _ keys vals M' => ⟨rfl, zz_in ⟨zt_up mp key v2, nd, fi, fc, n, kk, cp, S', M', hc, hcap, h16, hnc, p0, s0⟩ V⟩) (fun z => absurd hs z) (fun z => absurd hs z)
    · intro hs hl nd' fc' fC top pairs pl tag second third hash kids path S'
      refine zy_put M hc hcap h16 hnc hk (fun z => absurd z hs) (fun _ _ keys vals kk' M' => ⟨rfl, zz_in ⟨zt_up mp key v2, nd', fi, fc', n + 1, kk', cp, S', M', rfl, hcap, h16, by omega, p0, s0⟩ V⟩) (fun _ z => absurd hl z)
    · intro hs hl pl path
      refine zy_put M hc hcap h16 hnc hk (fun z => absurd z hs) (fun _ z => absurd z hl) (fun _ _ => ⟨rfl, zz_in ⟨mp, nd, fi, fc, n, kk, cp, S, M, hc, hcap, h16, hnc, p0, s0⟩ V⟩)
  · exact zx_put_bad hx (zy_put_bad M hc hx ⟨rfl, zz_in ⟨mp, nd, fi, fc, n, kk, cp, S, M, hc, hcap, h16, hnc, p0, s0⟩ V⟩)
theorem i_vc_remove {k : Nat} {u : SX} {v : SY} (I : i_Rel k u v) (hk : k + 3 ≤ 1539) (v1 : Int32) : wpX_remove (fun r u' => wpY_remove (fun r' v' => r' = r ∧ i_Rel (k + 3) u' v') v v1) u v1 := by
  refine zz_el (P := fun u v => wpX_remove (fun r u' => wpY_remove (fun r' v' => r' = r ∧ i_Rel (k + 3) u' v') v v1) u v1) I ?_
  intro f_capacity f_seed f_bits f_freeCount f_top f_pairs f_pathLen f_status f_claimRoot f_claimKey f_fedLen f_node f_need f_running f_expected f_level f_count f_tn f_proofLen f_proofNodes f_nodes f_claimed a_tag a_second a_third a_hash a_kids a_freeIds a_path a_fed a_starts a_keys a_vals a_dig a_t a_proof a_proofStart a_start T V
  obtain ⟨mp, nd, fi, fc, n, kk, cp, S, M, hc, hcap, h16, hnc, p0, s0⟩ := T
  by_cases hx : zb_K v1
  · obtain ⟨key, hk, rfl⟩ := zb_K_of hx
    cases hq : mp key with
    | none =>
      have hs : ¬ (mp key).isSome = true := by rw [hq]; decide
      refine zx_remove_no S hk hs ?_
      intro pl path
      exact zy_remove M hc hk (fun z => absurd z hs) (fun _ => ⟨rfl, zz_in ⟨mp, nd, fi, fc, n, kk, cp, S, M, hc, hcap, h16, hnc, p0, s0⟩ V⟩)
    | some q =>
      have hs : (mp key).isSome = true := by rw [hq]; rfl
      have hup := zt_up_rm hq
      have hn0 : 0 < n := by
        obtain ⟨j, hj, _⟩ := M.2.2.1 key hs
        omega
      obtain ⟨n, rfl⟩ : ∃ m, n = m + 1 := ⟨n - 1, by omega⟩
      rw [← hup] at S
      refine zx_remove S hk (by rw [zt_rm_k]; decide) ?_
      intro nd' fi' fc' fC top pairs pl third hash kids free path S'
      refine zy_remove M hc hk (fun _ n' keys vals kk' e M' => ?_) (fun z => absurd hs z)
      have e : n = n' := by omega
      subst e
      exact ⟨rfl, zz_in ⟨zt_rm mp key, nd', fi', fc', n, kk', cp, S', M', rfl, hcap, h16, by omega, p0, s0⟩ V⟩
  · exact zx_remove_bad hx (zy_remove_bad M hc hx ⟨rfl, zz_in ⟨mp, nd, fi, fc, n, kk, cp, S, M, hc, hcap, h16, hnc, p0, s0⟩ V⟩)
theorem i_vc_get {k : Nat} {u : SX} {v : SY} (I : i_Rel k u v) (hk : k + 3 ≤ 1539) (v1 : Int32) : wpX_get (fun r u' => wpY_get (fun r' => r' = r ∧ i_Rel (k + 3) u' v) v v1) u v1 := by
  refine zz_el (P := fun u v => wpX_get (fun r u' => wpY_get (fun r' => r' = r ∧ i_Rel (k + 3) u' v) v v1) u v1) I ?_
  intro f_capacity f_seed f_bits f_freeCount f_top f_pairs f_pathLen f_status f_claimRoot f_claimKey f_fedLen f_node f_need f_running f_expected f_level f_count f_tn f_proofLen f_proofNodes f_nodes f_claimed a_tag a_second a_third a_hash a_kids a_freeIds a_path a_fed a_starts a_keys a_vals a_dig a_t a_proof a_proofStart a_start T V
  obtain ⟨mp, nd, fi, fc, n, kk, cp, S, M, hc, hcap, h16, hnc, p0, s0⟩ := T
  have T' := (⟨mp, nd, fi, fc, n, kk, cp, S, M, hc, hcap, h16, hnc, p0, s0⟩ : zz_T f_capacity f_seed f_bits f_freeCount f_top f_pairs a_tag a_second a_third a_hash a_kids a_freeIds f_count a_keys a_vals a_proofStart a_start)
  by_cases hx : zb_K v1
  · obtain ⟨key, hk, rfl⟩ := zb_K_of hx
    refine zx_get S hk ?_ ?_
    · intro q pl path hq
      refine zy_get M hc hk (fun q' hq' => ?_) (fun z => by rw [hq] at z; cases z)
      rw [hq] at hq'
      cases hq'
      exact ⟨rfl, zz_in T' V⟩
    · intro pl path hq
      refine zy_get M hc hk (fun q' hq' => by rw [hq] at hq'; cases hq') (fun _ => ⟨rfl, zz_in T' V⟩)
  · exact zx_get_bad hx (zy_get_bad M hc hx ⟨rfl, zz_in T' V⟩)
theorem i_vc_size {k : Nat} {u : SX} {v : SY} (I : i_Rel k u v) (hk : k + 3 ≤ 1539) : wpX_size (fun r => wpY_size (fun r' => r' = r ∧ i_Rel (k + 3) u v) v) u := by
  refine zz_el (P := fun u v => wpX_size (fun r => wpY_size (fun r' => r' = r ∧ i_Rel (k + 3) u v) v) u) I ?_
  intro f_capacity f_seed f_bits f_freeCount f_top f_pairs f_pathLen f_status f_claimRoot f_claimKey f_fedLen f_node f_need f_running f_expected f_level f_count f_tn f_proofLen f_proofNodes f_nodes f_claimed a_tag a_second a_third a_hash a_kids a_freeIds a_path a_fed a_starts a_keys a_vals a_dig a_t a_proof a_proofStart a_start T V
  refine ⟨?_, zz_in T V⟩
  obtain ⟨mp, nd, fi, fc, n, kk, cp, S, M, hc, hcap, h16, hnc, p0, s0⟩ := T
  exact hc.trans S.2.2.2.2.2.2.2.2.1.symm
theorem i_vc_root {k : Nat} {u : SX} {v : SY} (I : i_Rel k u v) (hk : k + 3 ≤ 1539) : wpX_root (fun r => wpY_root (fun r' v' => r' = r ∧ i_Rel (k + 3) u v') v) u := by
  refine zz_el (P := fun u v => wpX_root (fun r => wpY_root (fun r' v' => r' = r ∧ i_Rel (k + 3) u v') v) u) I ?_
  intro f_capacity f_seed f_bits f_freeCount f_top f_pairs f_pathLen f_status f_claimRoot f_claimKey f_fedLen f_node f_need f_running f_expected f_level f_count f_tn f_proofLen f_proofNodes f_nodes f_claimed a_tag a_second a_third a_hash a_kids a_freeIds a_path a_fed a_starts a_keys a_vals a_dig a_t a_proof a_proofStart a_start T V
  have T' := T
  obtain ⟨mp, nd, fi, fc, n, kk, cp, S, M, hc, hcap, h16, hnc, p0, s0⟩ := T
  refine zx_root S (zy_root M hc ?_)
  intro tn t dig _
  exact ⟨rfl, zz_in T' V⟩
theorem i_vc_proofWord {k : Nat} {u : SX} {v : SY} (I : i_Rel k u v) (hk : k + 3 ≤ 1539) (v1 : Int32) (v2 : Int32) : wpX_proofWord (fun r u' => wpY_proofWord (fun r' v' => r' = r ∧ i_Rel (k + 3) u' v') v v1 v2) u v1 v2 := by
  refine zz_el (P := fun u v => wpX_proofWord (fun r u' => wpY_proofWord (fun r' v' => r' = r ∧ i_Rel (k + 3) u' v') v v1 v2) u v1 v2) I ?_
  intro f_capacity f_seed f_bits f_freeCount f_top f_pairs f_pathLen f_status f_claimRoot f_claimKey f_fedLen f_node f_need f_running f_expected f_level f_count f_tn f_proofLen f_proofNodes f_nodes f_claimed a_tag a_second a_third a_hash a_kids a_freeIds a_path a_fed a_starts a_keys a_vals a_dig a_t a_proof a_proofStart a_start T V
  have T' := T
  obtain ⟨mp, nd, fi, fc, n, kk, cp, S, M, hc, hcap, h16, hnc, p0, s0⟩ := T
  unfold wpX_proofWord
  by_cases hx : zb_K v1
  · obtain ⟨key, hk, rfl⟩ := zb_K_of hx
    have hwl := zt_ws_len f_seed f_bits mp key
    refine zx_isKey (fun _ => br_f zb_1ne0 ?_) (fun z => absurd hx z)
    have hT : ∀ (proof ps : Nat → Int32), zy_PS proof ps (zt_ws f_seed f_bits mp key) → zz_T f_capacity f_seed f_bits f_freeCount f_top f_pairs a_tag a_second a_third a_hash a_kids a_freeIds f_count a_keys a_vals ps a_start := by
      intro proof ps P
      exact ⟨mp, nd, fi, fc, n, kk, cp, S, M, hc, hcap, h16, hnc, by rw [P.2 0 (by omega)]; rfl, s0⟩
    refine br_c (fun h0 => ?_) (fun h0 => ?_)
    · obtain ⟨x, hx31, rfl⟩ := nI_of (x := v2) (Int32.not_lt.mpr h0)
      refine zx_descend S.1 hk S.2.2.1 S.2.2.2.1 ?_
      intro pa hp
      obtain ⟨P, hlen⟩ := zx_PA_of S hk hp
      dsimp only
      rw [hlen]
      have Yw : ∀ r : Int64, (∀ y, ((zt_ws f_seed f_bits mp key).flatten)[x]? = some y → y.toInt64 = r) → (((zt_ws f_seed f_bits mp key).flatten)[x]? = none → 4294967296 = r) →
          wpY_proofWord (fun r' v' => r' = r ∧ i_Rel (k + 3) (f_capacity, f_seed, f_bits, f_freeCount, f_top, f_pairs, nI (zt_ws f_seed f_bits mp key).length, f_status, f_claimRoot, f_claimKey, f_fedLen, f_node, f_need, f_running, f_expected, f_level, a_tag, a_second, a_third, a_hash, a_kids, a_freeIds, pa, a_fed, a_starts) v') (f_capacity, f_seed, f_bits, f_count, f_tn, f_proofLen, f_proofNodes, f_claimRoot, f_claimKey, f_fedLen, f_nodes, f_claimed, a_keys, a_vals, a_dig, a_t, a_proof, a_proofStart, a_fed, a_start) (nI key) (nI x) := by
        intro r e1 e2
        unfold wpY_proofWord
        refine zy_isKey (fun _ => br_f zb_1ne0 ?_) (fun z => absurd hx z)
        refine zy_prove M S.1.1 hk hc p0 ?_
        intro tn t dig proof ps P'
        have hfl := zt_ws_fl f_seed f_bits mp key
        refine br_f (nI_pos hx31) (zv_br_le (by omega) hx31 rfl (fun hl => ⟨e2 (List.getElem?_eq_none hl), zz_in (hT _ _ P') V⟩) (fun hl => ⟨vp_in_nI (by omega) (by omega), ?_⟩))
        have hg : ((zt_ws f_seed f_bits mp key).flatten)[x]? = some (((zt_ws f_seed f_bits mp key).flatten)[x]'(by omega)) := List.getElem?_eq_getElem (by omega)
        rw [nI_clamp hx31, P'.1 x _ hg]
        exact ⟨e1 _ hg, zz_in (hT _ _ P') V⟩
      refine zx_pathWord P (by omega) hx31 (fun y hy => Yw _ (fun y' hy' => ?_) (fun z => ?_)) (fun hy => Yw _ (fun y' hy' => ?_) (fun _ => rfl))
      · rw [hy] at hy'; cases hy'; rfl
      · rw [hy] at z; cases z
      · rw [hy] at hy'; cases hy'
    · unfold wpY_proofWord
      refine zy_isKey (fun _ => br_f zb_1ne0 ?_) (fun z => absurd hx z)
      refine zy_prove M S.1.1 hk hc p0 ?_
      intro tn t dig proof ps P'
      exact br_t (Int32.not_le.mp h0) ⟨rfl, zz_in (hT _ _ P') V⟩
  · refine zx_isKey (fun z => absurd z hx) (fun _ => br_t rfl ?_)
    unfold wpY_proofWord
    exact zy_isKey (fun z => absurd z hx) (fun _ => br_t rfl ⟨rfl, zz_in T' V⟩)
end
section
/-! the calls on the verifier -/
theorem zz_V_begin {seed bits claimRoot need : Int32} {c : Nat} {fed starts : Nat → Int32} (hc : c < 65536) : zz_V seed bits 1 claimRoot (nI c) 0 0 need (seed + 1) claimRoot 0 fed (upd starts 0 0) 1 := by
  refine ⟨c, 0, hc, rfl, rfl, by omega, Or.inr ⟨by decide, by decide, 0, fun _ => 0, fun _ => claimRoot, fun _ => 0, ⟨rfl, fun j hj => ?_, rfl, rfl⟩, ⟨rfl, rfl, rfl, by omega, Nat.le_refl _, fun j hj => by omega⟩, Or.inl ⟨rfl, ⟨fun z => by omega, fun z => by omega, fun z => by omega⟩, fun z => by omega, fun z => by omega, rfl, fun z => by omega, fun z => by omega⟩⟩⟩
  have : j = 0 := by omega
  subst this
  exact pk_us
section
variable {f_capacity f_seed f_bits f_freeCount f_top f_pairs f_pathLen f_status f_claimRoot f_claimKey f_fedLen f_node f_need f_running f_expected f_level : Int32} {a_tag a_second a_third a_hash a_kids a_freeIds a_path a_fed a_starts : Nat → Int32}
theorem zx_begin {post : Int32 → SX → Prop} {x r : Int32} (h1 : zb_K x → post 1 (f_capacity, f_seed, f_bits, f_freeCount, f_top, f_pairs, f_pathLen, 1, r, x, 0, 0, f_need, f_seed + 1, r, 0, a_tag, a_second, a_third, a_hash, a_kids, a_freeIds, a_path, a_fed, upd a_starts 0 0)) (h0 : ¬ zb_K x → post (-1) (f_capacity, f_seed, f_bits, f_freeCount, f_top, f_pairs, f_pathLen, f_status, f_claimRoot, f_claimKey, f_fedLen, f_node, f_need, f_running, f_expected, f_level, a_tag, a_second, a_third, a_hash, a_kids, a_freeIds, a_path, a_fed, a_starts)) : wpX_begin post (f_capacity, f_seed, f_bits, f_freeCount, f_top, f_pairs, f_pathLen, f_status, f_claimRoot, f_claimKey, f_fedLen, f_node, f_need, f_running, f_expected, f_level, a_tag, a_second, a_third, a_hash, a_kids, a_freeIds, a_path, a_fed, a_starts) r x := by
  unfold wpX_begin
  refine zx_isKey (fun h => br_f zb_1ne0 ?_) (fun h => br_t rfl (h0 h))
  exact zx_openNode (N := 0) (by omega) rfl (h1 h)
end
section
variable {f_capacity f_seed f_bits f_count f_tn f_proofLen f_proofNodes f_claim f_ck f_wn f_nodes f_claimed : Int32} {a_keys a_vals a_dig a_t a_proof a_proofStart a_w a_start : Nat → Int32}
theorem zy_begin {post : Int32 → SY → Prop} {x r : Int32} (h1 : zb_K x → post 1 (f_capacity, f_seed, f_bits, f_count, f_tn, f_proofLen, f_proofNodes, r, x, 0, f_nodes, 1, a_keys, a_vals, a_dig, a_t, a_proof, a_proofStart, a_w, a_start)) (h0 : ¬ zb_K x → post (-1) (f_capacity, f_seed, f_bits, f_count, f_tn, f_proofLen, f_proofNodes, f_claim, f_ck, f_wn, f_nodes, f_claimed, a_keys, a_vals, a_dig, a_t, a_proof, a_proofStart, a_w, a_start)) : wpY_begin post (f_capacity, f_seed, f_bits, f_count, f_tn, f_proofLen, f_proofNodes, f_claim, f_ck, f_wn, f_nodes, f_claimed, a_keys, a_vals, a_dig, a_t, a_proof, a_proofStart, a_w, a_start) r x := by
  unfold wpY_begin
  exact zy_isKey (fun h => br_f zb_1ne0 (h1 h)) (fun h => br_t rfl (h0 h))
end
theorem i_vc_begin {k : Nat} {u : SX} {v : SY} (I : i_Rel k u v) (hk : k + 3 ≤ 1539) (v1 : Int32) (v2 : Int32) : wpX_begin (fun r u' => wpY_begin (fun r' v' => r' = r ∧ i_Rel (k + 3) u' v') v v1 v2) u v1 v2 := by
  refine zz_el (P := fun u v => wpX_begin (fun r u' => wpY_begin (fun r' v' => r' = r ∧ i_Rel (k + 3) u' v') v v1 v2) u v1 v2) I ?_
  intro f_capacity f_seed f_bits f_freeCount f_top f_pairs f_pathLen f_status f_claimRoot f_claimKey f_fedLen f_node f_need f_running f_expected f_level f_count f_tn f_proofLen f_proofNodes f_nodes f_claimed a_tag a_second a_third a_hash a_kids a_freeIds a_path a_fed a_starts a_keys a_vals a_dig a_t a_proof a_proofStart a_start T V
  refine zx_begin (fun h => ?_) (fun h => zy_begin (fun z => absurd z h) (fun _ => ⟨rfl, zz_in T V⟩))
  obtain ⟨key, hk, rfl⟩ := zb_K_of h
  exact zy_begin (fun _ => ⟨rfl, zz_in T (zz_V_begin hk)⟩) (fun z => absurd h z)
theorem i_vc_beginHere {k : Nat} {u : SX} {v : SY} (I : i_Rel k u v) (hk : k + 3 ≤ 1539) (v1 : Int32) : wpX_beginHere (fun r u' => wpY_beginHere (fun r' v' => r' = r ∧ i_Rel (k + 3) u' v') v v1) u v1 := by
  refine zz_el (P := fun u v => wpX_beginHere (fun r u' => wpY_beginHere (fun r' v' => r' = r ∧ i_Rel (k + 3) u' v') v v1) u v1) I ?_
  intro f_capacity f_seed f_bits f_freeCount f_top f_pairs f_pathLen f_status f_claimRoot f_claimKey f_fedLen f_node f_need f_running f_expected f_level f_count f_tn f_proofLen f_proofNodes f_nodes f_claimed a_tag a_second a_third a_hash a_kids a_freeIds a_path a_fed a_starts a_keys a_vals a_dig a_t a_proof a_proofStart a_start T V
  have T' := T
  obtain ⟨mp, nd, fi, fc, n, kk, cp, S, M, hc, hcap, h16, hnc, p0, s0⟩ := T
  unfold wpX_beginHere
  refine zx_root S ?_
  refine zx_begin (fun h => ?_) (fun h => ?_)
  · obtain ⟨key, hk, rfl⟩ := zb_K_of h
    unfold wpY_beginHere
    refine zy_root M hc ?_
    intro tn t dig _
    exact zy_begin (fun _ => ⟨rfl, zz_in T' (zz_V_begin hk)⟩) (fun z => absurd h z)
  · unfold wpY_beginHere
    refine zy_root M hc ?_
    intro tn t dig _
    exact zy_begin (fun z => absurd z h) (fun _ => ⟨rfl, zz_in T' V⟩)
theorem i_vc_claimWord {k : Nat} {u : SX} {v : SY} (I : i_Rel k u v) (hk : k + 3 ≤ 1539) (v1 : Int32) : wpX_claimWord (fun r => wpY_claimWord (fun r' => r' = r ∧ i_Rel (k + 3) u v) v v1) u v1 := by
  refine zz_el (P := fun u v => wpX_claimWord (fun r => wpY_claimWord (fun r' => r' = r ∧ i_Rel (k + 3) u v) v v1) u v1) I ?_
  intro f_capacity f_seed f_bits f_freeCount f_top f_pairs f_pathLen f_status f_claimRoot f_claimKey f_fedLen f_node f_need f_running f_expected f_level f_count f_tn f_proofLen f_proofNodes f_nodes f_claimed a_tag a_second a_third a_hash a_kids a_freeIds a_path a_fed a_starts a_keys a_vals a_dig a_t a_proof a_proofStart a_start T V
  have Z : ∀ r : Int64, r = r ∧ i_Rel (k + 3) (f_capacity, f_seed, f_bits, f_freeCount, f_top, f_pairs, f_pathLen, f_status, f_claimRoot, f_claimKey, f_fedLen, f_node, f_need, f_running, f_expected, f_level, a_tag, a_second, a_third, a_hash, a_kids, a_freeIds, a_path, a_fed, a_starts) (f_capacity, f_seed, f_bits, f_count, f_tn, f_proofLen, f_proofNodes, f_claimRoot, f_claimKey, f_fedLen, f_nodes, f_claimed, a_keys, a_vals, a_dig, a_t, a_proof, a_proofStart, a_fed, a_start) := fun r => ⟨rfl, zz_in T V⟩
  obtain ⟨c, m, hc, hck, hm, hm79, ⟨hs, hcl⟩ | ⟨hcl, hs, _⟩⟩ := V
  · exact br_t hs (br_t hcl (Z _))
  · refine br_f hs (br_c (fun h0 => ?_) (fun h0 => br_f hcl (br_t (Int32.not_le.mp h0) (Z _))))
    have h0' : ¬ v1 < 0 := Int32.not_lt.mpr h0
    obtain ⟨x, hx, rfl⟩ := nI_of h0'
    subst hm
    have hle : x ≤ 1 + m → nI x ≤ 1 + nI m := fun z => by rw [show 1 + nI m = nI (1 + m) from nI_add 1 m]; exact nI_le z (by omega)
    refine br_c (fun h1 => br_f hcl (br_f h0' (br_t (hle ?_) (br_t h1 (Z _))))) (fun h1 => br_c (fun h2 => br_f hcl (br_f h0' (br_t (hle ?_) (br_f h1 (br_t h2 (Z _)))))) (fun h2 => ?_))
    · rw [show (0 : Int32) = nI 0 from rfl, nI_eq hx (by omega)] at h1; omega
    · rw [show (1 : Int32) = nI 1 from rfl, nI_eq hx (by omega)] at h2; omega
    · have x2 : 2 ≤ x := by
        rw [show (0 : Int32) = nI 0 from rfl, nI_eq hx (by omega)] at h1
        rw [show (1 : Int32) = nI 1 from rfl, nI_eq hx (by omega)] at h2
        omega
      have e2 : nI x - 2 = nI (x - 2) := by rw [show (2 : Int32) = nI 2 from rfl, pk_sub x2]
      rw [e2]
      refine br_c (fun h3 => ?_) (fun h3 => ?_)
      · rw [nI_leI (by omega) (by omega)] at h3
        refine br_f hcl (br_f h0' (br_f ?_ (Z _)))
        rw [show 1 + nI m = nI (1 + m) from nI_add 1 m]
        exact nI_ge (by omega) (by omega)
      · rw [nI_leI (by omega) (by omega)] at h3
        rw [nI_clamp (by omega)]
        refine ⟨vp_in_nI (by omega) (by omega), br_f hcl (br_f h0' (br_t (hle (by omega)) (br_f h1 (br_f h2 ?_))))⟩
        rw [e2, nI_clamp (by omega)]
        exact ⟨vp_in_nI (by omega) (by omega), Z _⟩
section
variable {f_capacity f_seed f_bits f_freeCount f_top f_pairs f_pathLen f_status f_claimRoot f_claimKey f_fedLen f_node f_need f_running f_expected f_level f_count f_tn f_proofLen f_proofNodes f_claim f_ck f_wn f_nodes f_claimed : Int32} {a_tag a_second a_third a_hash a_kids a_freeIds a_path a_fed a_starts a_keys a_vals a_dig a_t a_proof a_proofStart a_w a_start : Nat → Int32}
/-- Y's walk from a related state -/
theorem zz_walk {post : Int32 → SY → Prop} (V : zz_V f_seed f_bits f_status f_claimRoot f_claimKey f_fedLen f_node f_need f_running f_expected f_level a_fed a_starts f_claimed) (s0 : a_start 0 = 0)
    (H : ∀ tn nn t start, start 0 = 0 → post f_status (f_capacity, f_seed, f_bits, f_count, tn, f_proofLen, f_proofNodes, f_claimRoot, f_claimKey, f_fedLen, nn, f_claimed, a_keys, a_vals, a_dig, t, a_proof, a_proofStart, a_fed, start)) : wpY_walk post (f_capacity, f_seed, f_bits, f_count, f_tn, f_proofLen, f_proofNodes, f_claimRoot, f_claimKey, f_fedLen, f_nodes, f_claimed, a_keys, a_vals, a_dig, a_t, a_proof, a_proofStart, a_fed, a_start) := by
  obtain ⟨c, m, hc, hck, hm, hm79, ⟨hs, hcl⟩ | ⟨hcl, hs, N, S, E, L, lk, Q, C⟩⟩ := V
  · refine zy_walk_0 hcl ?_
    have := H f_tn 0 a_t a_start s0
    rw [hs] at this
    exact this
  · refine zy_walk hc hcl hm hck (by omega) s0 rfl Q C ?_
    intro tn nn t start h1 _
    refine H tn nn t start ?_
    rw [h1 0 (by omega), Q.1]; rfl
theorem zz_T_s {start ps : Nat → Int32} (T : zz_T f_capacity f_seed f_bits f_freeCount f_top f_pairs a_tag a_second a_third a_hash a_kids a_freeIds f_count a_keys a_vals a_proofStart a_start) (h0 : start 0 = 0) (h1 : ps 0 = 0) : zz_T f_capacity f_seed f_bits f_freeCount f_top f_pairs a_tag a_second a_third a_hash a_kids a_freeIds f_count a_keys a_vals ps start := by
  obtain ⟨mp, nd, fi, fc, n, kk, cp, S, M, hc, hcap, h16, hnc, p0, s0⟩ := T
  exact ⟨mp, nd, fi, fc, n, kk, cp, S, M, hc, hcap, h16, hnc, h1, h0⟩
theorem zz_T_p (T : zz_T f_capacity f_seed f_bits f_freeCount f_top f_pairs a_tag a_second a_third a_hash a_kids a_freeIds f_count a_keys a_vals a_proofStart a_start) : a_proofStart 0 = 0 ∧ a_start 0 = 0 := by
  obtain ⟨mp, nd, fi, fc, n, kk, cp, S, M, hc, hcap, h16, hnc, p0, s0⟩ := T
  exact ⟨p0, s0⟩
/-- Y's feed: refused -/
theorem zy_feed_no {post : Int32 → SY → Prop} {x : Int32} (V : zz_V f_seed f_bits f_status f_claimRoot f_claimKey f_fedLen f_node f_need f_running f_expected f_level a_fed a_starts f_claimed) (s0 : a_start 0 = 0) (hs : ¬ f_status = 1)
    (H : ∀ tn nn t start, start 0 = 0 → post f_status (f_capacity, f_seed, f_bits, f_count, tn, f_proofLen, f_proofNodes, f_claimRoot, f_claimKey, f_fedLen, nn, f_claimed, a_keys, a_vals, a_dig, t, a_proof, a_proofStart, a_fed, start)) : wpY_feed post (f_capacity, f_seed, f_bits, f_count, f_tn, f_proofLen, f_proofNodes, f_claimRoot, f_claimKey, f_fedLen, f_nodes, f_claimed, a_keys, a_vals, a_dig, a_t, a_proof, a_proofStart, a_fed, a_start) x := by
  unfold wpY_feed
  refine zz_walk V s0 ?_
  intro tn nn t start hst
  refine br_f hs ?_
  unfold wY_feed_37
  refine zz_walk V hst ?_
  intro tn nn t start hst
  exact H tn nn t start hst
end
end
section
/-! feed and relay -/
theorem zv_C_1 {s b : Int32} {ck : Nat} {w : Nat → Int32} {p hv : Nat} {e : Int32} {l N : Nat} {need running : Int32} (C : zv_C s b ck w p hv e l N 1 need running) : zv_more s ck w p hv l N need running := by
  rcases C with ⟨_, C⟩ | ⟨z, _⟩ | ⟨_, _, _, ⟨_, z⟩ | ⟨_, z⟩ | ⟨d, _, _, _, _, z⟩⟩
  · exact C
  · exact absurd z (by decide)
  · exact absurd z (by decide)
  · split at z <;> exact absurd z (by decide)
  · exact absurd z (by decide)
theorem zv_C_n0 {s b : Int32} {ck : Nat} {w : Nat → Int32} {p hv : Nat} {e : Int32} {l N : Nat} {st need running : Int32} (C : zv_C s b ck w p hv e l N st need running) : ¬ st = 0 := by
  intro h
  subst h
  rcases C with ⟨z, _⟩ | ⟨z, _⟩ | ⟨_, _, _, ⟨_, z⟩ | ⟨_, z⟩ | ⟨d, _, _, _, _, z⟩⟩
  · exact absurd z (by decide)
  · exact absurd z (by decide)
  · exact absurd z (by decide)
  · split at z <;> exact absurd z (by decide)
  · exact absurd z (by decide)
section
variable {f_capacity f_seed f_bits f_freeCount f_top f_pairs f_pathLen f_status f_claimRoot f_claimKey f_fedLen f_node f_need f_running f_expected f_level f_count f_tn f_proofLen f_proofNodes f_claim f_ck f_wn f_nodes f_claimed : Int32} {a_tag a_second a_third a_hash a_kids a_freeIds a_path a_fed a_starts a_keys a_vals a_dig a_t a_proof a_proofStart a_w a_start : Nat → Int32}
theorem zx_feedV {post : Int32 → SX → Prop} {x : Int32} (V : zz_V f_seed f_bits f_status f_claimRoot f_claimKey f_fedLen f_node f_need f_running f_expected f_level a_fed a_starts f_claimed) (hs : f_status = 1)
    (H : ∀ m st node need running expected level starts, f_fedLen = nI m → m ≤ 78 → zz_V f_seed f_bits st f_claimRoot f_claimKey (nI (m + 1)) node need running expected level (upd a_fed m x) starts f_claimed →
      post st (f_capacity, f_seed, f_bits, f_freeCount, f_top, f_pairs, f_pathLen, st, f_claimRoot, f_claimKey, nI (m + 1), node, need, running, expected, level, a_tag, a_second, a_third, a_hash, a_kids, a_freeIds, a_path, upd a_fed m x, starts)) : wpX_feed post (f_capacity, f_seed, f_bits, f_freeCount, f_top, f_pairs, f_pathLen, f_status, f_claimRoot, f_claimKey, f_fedLen, f_node, f_need, f_running, f_expected, f_level, a_tag, a_second, a_third, a_hash, a_kids, a_freeIds, a_path, a_fed, a_starts) x := by
  subst hs
  obtain ⟨c, m, hc, hck, hm, hm79, ⟨hs, hcl⟩ | ⟨hcl, hs, N, S, E, L, lk, Q, C⟩⟩ := V
  · exact absurd hs (by decide)
  · have C1 := zv_C_1 C
    have h78 := zv_b78 Q C1
    refine zx_feed hc hm hck lk rfl Q C1 ?_
    intro st node need running expected level starts N' S' E' L' lk' Q' C'
    exact H m st node need running expected level starts hm h78 ⟨c, m + 1, hc, hck, rfl, by omega, Or.inr ⟨hcl, zv_C_n0 C', N', S', E', L', lk', Q', C'⟩⟩
theorem zy_feed_yes {post : Int32 → SY → Prop} {x st node need running expected level : Int32} {starts : Nat → Int32} {m : Nat} (V : zz_V f_seed f_bits f_status f_claimRoot f_claimKey f_fedLen f_node f_need f_running f_expected f_level a_fed a_starts f_claimed) (s0 : a_start 0 = 0) (hs : f_status = 1)
    (hm : f_fedLen = nI m) (h78 : m ≤ 78) (V' : zz_V f_seed f_bits st f_claimRoot f_claimKey (nI (m + 1)) node need running expected level (upd a_fed m x) starts f_claimed)
    (H : ∀ tn nn t start, start 0 = 0 → post st (f_capacity, f_seed, f_bits, f_count, tn, f_proofLen, f_proofNodes, f_claimRoot, f_claimKey, nI (m + 1), nn, f_claimed, a_keys, a_vals, a_dig, t, a_proof, a_proofStart, upd a_fed m x, start)) : wpY_feed post (f_capacity, f_seed, f_bits, f_count, f_tn, f_proofLen, f_proofNodes, f_claimRoot, f_claimKey, f_fedLen, f_nodes, f_claimed, a_keys, a_vals, a_dig, a_t, a_proof, a_proofStart, a_fed, a_start) x := by
  unfold wpY_feed
  refine zz_walk V s0 ?_
  intro tn nn t start hst
  subst hs hm
  refine br_t rfl (br_f (nI_ge (a := m) (b := 79) (by omega) (by omega)) ⟨vp_in_nI (by omega) (by omega), nm_e (nm_r (nI_1 m) ?_)⟩)
  rw [nI_clamp (by omega)]
  unfold wY_feed_37
  refine zz_walk V' hst ?_
  intro tn nn t start hst
  exact H tn nn t start hst
end
theorem i_vc_feed {k : Nat} {u : SX} {v : SY} (I : i_Rel k u v) (hk : k + 3 ≤ 1539) (v1 : Int32) : wpX_feed (fun r u' => wpY_feed (fun r' v' => r' = r ∧ i_Rel (k + 3) u' v') v v1) u v1 := by
  refine zz_el (P := fun u v => wpX_feed (fun r u' => wpY_feed (fun r' v' => r' = r ∧ i_Rel (k + 3) u' v') v v1) u v1) I ?_
  intro f_capacity f_seed f_bits f_freeCount f_top f_pairs f_pathLen f_status f_claimRoot f_claimKey f_fedLen f_node f_need f_running f_expected f_level f_count f_tn f_proofLen f_proofNodes f_nodes f_claimed a_tag a_second a_third a_hash a_kids a_freeIds a_path a_fed a_starts a_keys a_vals a_dig a_t a_proof a_proofStart a_start T V
  obtain ⟨p0, s0⟩ := zz_T_p T
  by_cases hs : f_status = 1
  · refine zx_feedV V hs ?_
    intro m st node need running expected level starts hm h78 V'
    refine zy_feed_yes V s0 hs hm h78 V' ?_
    intro tn nn t start hst
    exact ⟨rfl, zz_in (zz_T_s T hst p0) V'⟩
  · refine zx_feed_no hs ?_
    refine zy_feed_no V s0 hs ?_
    intro tn nn t start hst
    exact ⟨rfl, zz_in (zz_T_s T hst p0) V⟩
section
variable {f_capacity f_seed f_bits f_freeCount f_top f_pairs f_pathLen f_status f_claimRoot f_claimKey f_fedLen f_node f_need f_running f_expected f_level f_count f_tn f_proofLen f_proofNodes f_claim f_ck f_wn f_nodes f_claimed : Int32} {a_tag a_second a_third a_hash a_kids a_freeIds a_path a_fed a_starts a_keys a_vals a_dig a_t a_proof a_proofStart a_w a_start : Nat → Int32}
/-- Y's relay, once nothing more is fed -/
theorem zy_relay_rest {post : Int32 → SY → Prop} {x1 : Int32} {m l : Nat} (V : zz_V f_seed f_bits f_status f_claimRoot f_claimKey f_fedLen f_node f_need f_running f_expected f_level a_fed a_starts f_claimed) (hm : f_fedLen = nI m) (hm79 : m ≤ 79) (hl : f_proofLen = nI l) (hl80 : l ≤ 79) (hst : ¬ f_status = 1 ∨ l ≤ m)
    (H : ∀ tn nn t start, start 0 = 0 → post f_status (f_capacity, f_seed, f_bits, f_count, tn, f_proofLen, f_proofNodes, f_claimRoot, f_claimKey, f_fedLen, nn, f_claimed, a_keys, a_vals, a_dig, t, a_proof, a_proofStart, a_fed, start)) :
    ∀ d s tn nn t start, s + d = 79 → start 0 = 0 → wY_relay_10 post x1 (d + 1) (nI s) f_capacity f_seed f_bits f_count tn f_proofLen f_proofNodes f_claimRoot f_claimKey f_fedLen nn f_claimed a_keys a_vals a_dig t a_proof a_proofStart a_fed start := by
  have fin : ∀ tn nn t start, start 0 = 0 → wY_relay_52 post f_capacity f_seed f_bits f_count tn f_proofLen f_proofNodes f_claimRoot f_claimKey f_fedLen nn f_claimed a_keys a_vals a_dig t a_proof a_proofStart a_fed start := by
    intro tn nn t start s0
    unfold wY_relay_52
    exact zz_walk V s0 H
  intro d
  induction d with
  | zero =>
    intro s tn nn t start hs s0
    exact br_c (fun _ => fin tn nn t start s0) (fun _ => br_t (nI_le (a := 79) (by omega) (by omega)) (fin tn nn t start s0))
  | succ d ih =>
    intro s tn nn t start hs s0
    refine br_c (fun _ => fin tn nn t start s0) (fun _ => br_f (nI_ge (a := s) (b := 79) (by omega) (by omega)) ?_)
    rw [hl, hm]
    refine zv_br_le (by omega) (by omega) rfl (fun h => nm_r (nI_1 s) ?_) (fun h => ⟨vp_in_nI (by omega) (by omega), ?_⟩)
    · rw [← hl, ← hm]; exact ih (s + 1) tn nn t start (by omega) s0
    · have h1 : ¬ f_status = 1 := by
        rcases hst with z | z
        · exact z
        · exact absurd z h
      rw [← hl, ← hm]
      refine zy_feed_no V s0 h1 ?_
      intro tn nn t start s0
      exact nm_r (nI_1 s) (ih (s + 1) tn nn t start (by omega) s0)
theorem zb_noval (y : Int32) : ¬ y.toInt64 = 4294967296 := by
  intro h
  have h1 := congrArg Int64.toInt h
  rw [Int32.toInt_toInt64, show (4294967296 : Int64).toInt = 4294967296 from by decide] at h1
  have := y.toInt_lt
  omega
theorem zz_relay_l {postX : Int32 → SX → Prop} {v0 : SY} {x1 : Int32} {k : Nat} {ws : List (List Int32)} (hX : ∀ r u', wpY_relay (fun r' v' => r' = r ∧ i_Rel k u' v') v0 x1 → postX r u')
    (T : zz_T f_capacity f_seed f_bits f_freeCount f_top f_pairs a_tag a_second a_third a_hash a_kids a_freeIds f_count a_keys a_vals a_proofStart a_start)
    (P : zx_PA a_tag a_second a_third a_kids a_hash a_path ws) (hw5 : ws.length ≤ 5) (hfl : ws.flatten.length ≤ 79) :
    ∀ d s (f_status f_fedLen f_node f_need f_running f_expected f_level : Int32) (a_fed a_starts : Nat → Int32), s + d = 79 → zz_V f_seed f_bits f_status f_claimRoot f_claimKey f_fedLen f_node f_need f_running f_expected f_level a_fed a_starts f_claimed →
      (∀ postY, (∀ tn nn t start dig proof ps pn, start 0 = 0 → ps 0 = 0 → zy_T proof ws.flatten → wY_relay_10 postY x1 (d + 1) (nI s) f_capacity f_seed f_bits f_count tn (nI ws.flatten.length) pn f_claimRoot f_claimKey f_fedLen nn f_claimed a_keys a_vals dig t proof ps a_fed start) → wpY_relay postY v0 x1) →
      wX_relay_10 postX x1 (d + 1) (nI s) f_capacity f_seed f_bits f_freeCount f_top f_pairs (nI ws.length) f_status f_claimRoot f_claimKey f_fedLen f_node f_need f_running f_expected f_level a_tag a_second a_third a_hash a_kids a_freeIds a_path a_fed a_starts := by
  intro d
  induction d with
  | zero =>
    intro s f_status f_fedLen f_node f_need f_running f_expected f_level a_fed a_starts hs V YC
    have V0 := V
    obtain ⟨c, m, hc, hck, hm, hm79, _⟩ := V
    have e79 : s = 79 := by omega
    subst e79
    have fin : postX f_status (f_capacity, f_seed, f_bits, f_freeCount, f_top, f_pairs, nI ws.length, f_status, f_claimRoot, f_claimKey, f_fedLen, f_node, f_need, f_running, f_expected, f_level, a_tag, a_second, a_third, a_hash, a_kids, a_freeIds, a_path, a_fed, a_starts) := by
      refine hX _ _ (YC _ ?_)
      intro tn nn t start dig proof ps pn s0 p0 hpt
      have Y79 : wY_relay_52 (fun r' v' => r' = f_status ∧ i_Rel k (f_capacity, f_seed, f_bits, f_freeCount, f_top, f_pairs, nI ws.length, f_status, f_claimRoot, f_claimKey, f_fedLen, f_node, f_need, f_running, f_expected, f_level, a_tag, a_second, a_third, a_hash, a_kids, a_freeIds, a_path, a_fed, a_starts) v') f_capacity f_seed f_bits f_count tn (nI ws.flatten.length) pn f_claimRoot f_claimKey f_fedLen nn f_claimed a_keys a_vals dig t proof ps a_fed start := by
        unfold wY_relay_52
        refine zz_walk V0 s0 ?_
        intro tn nn t start hst
        exact ⟨rfl, zz_in (zz_T_s T hst p0) V0⟩
      exact br_c (fun _ => Y79) (fun _ => br_t (by decide) Y79)
    exact br_c (fun _ => fin) (fun _ => br_t (by decide) fin)
  | succ d ih =>
    intro s f_status f_fedLen f_node f_need f_running f_expected f_level a_fed a_starts hs V YC
    have V0 := V
    obtain ⟨c, m, hc, hck, hm, hm79, _⟩ := V
    have rel : ∀ dig proof ps pn, ps 0 = 0 → ∀ tn nn t start, start 0 = 0 → f_status = f_status ∧ i_Rel k (f_capacity, f_seed, f_bits, f_freeCount, f_top, f_pairs, nI ws.length, f_status, f_claimRoot, f_claimKey, f_fedLen, f_node, f_need, f_running, f_expected, f_level, a_tag, a_second, a_third, a_hash, a_kids, a_freeIds, a_path, a_fed, a_starts) (f_capacity, f_seed, f_bits, f_count, tn, nI ws.flatten.length, pn, f_claimRoot, f_claimKey, f_fedLen, nn, f_claimed, a_keys, a_vals, dig, t, proof, ps, a_fed, start) := fun dig proof ps pn p0 tn nn t start hst => ⟨rfl, zz_in (zz_T_s T hst p0) V0⟩
    have stop : (¬ f_status = 1 ∨ ws.flatten.length ≤ m) → postX f_status (f_capacity, f_seed, f_bits, f_freeCount, f_top, f_pairs, nI ws.length, f_status, f_claimRoot, f_claimKey, f_fedLen, f_node, f_need, f_running, f_expected, f_level, a_tag, a_second, a_third, a_hash, a_kids, a_freeIds, a_path, a_fed, a_starts) := by
      intro hst
      refine hX _ _ (YC _ ?_)
      intro tn nn t start dig proof ps pn s0 p0 hpt
      exact zy_relay_rest V0 hm hm79 rfl hfl hst (rel dig proof ps pn p0) (d + 1) s tn nn t start hs s0
    by_cases hx1 : x1 ≤ nI s
    · refine br_t hx1 (hX _ _ (YC _ ?_))
      intro tn nn t start dig proof ps pn s0 p0 hpt
      refine br_t hx1 ?_
      unfold wY_relay_52
      exact zz_walk V0 s0 (rel dig proof ps pn p0)
    · refine br_f hx1 (br_f (nI_ge (a := s) (b := 79) (by omega) (by omega)) (br_c (fun h1 => ?_) (fun h1 => stop (Or.inl h1))))
      subst hm
      refine zx_pathWord P hw5 (by omega) ?_ ?_
      · intro y hy
        have hlt := zy_T_lt' hy
        refine br_f (zb_noval y) ?_
        rw [lg_l2i_i2l]
        refine zx_feedV V0 h1 ?_
        intro m' st node need running expected level starts hm' h78 V'
        have em : m' = m := by
          rw [nI_eq (by omega) (by omega)] at hm'
          exact hm'.symm
        subst em
        refine nm_r (nI_1 s) (ih (s + 1) st (nI (m' + 1)) node need running expected level (upd a_fed m' y) starts (by omega) V' ?_)
        intro postY HY
        refine YC postY ?_
        intro tn nn t start dig proof ps pn s0 p0 hpt
        refine br_f hx1 (br_f (nI_ge (a := s) (b := 79) (by omega) (by omega)) (br_f (nI_ge (by omega) (by omega)) ⟨vp_in_nI (by omega) (by omega), ?_⟩))
        rw [nI_clamp (by omega), hpt m' y hy]
        refine zy_feed_yes V0 s0 h1 rfl h78 V' ?_
        intro tn nn t start s0
        exact nm_r (nI_1 s) (HY tn nn t start dig proof ps pn s0 p0 hpt)
      · intro hy
        have hle : ws.flatten.length ≤ m := by
          apply Classical.byContradiction
          intro z
          rw [List.getElem?_eq_getElem (by omega)] at hy
          cases hy
        exact br_t rfl (stop (Or.inr hle))
end
theorem i_vc_relay {k : Nat} {u : SX} {v : SY} (I : i_Rel k u v) (hk : k + 3 ≤ 1539) (v1 : Int32) : wpX_relay (fun r u' => wpY_relay (fun r' v' => r' = r ∧ i_Rel (k + 3) u' v') v v1) u v1 := by
  refine zz_el (P := fun u v => wpX_relay (fun r u' => wpY_relay (fun r' v' => r' = r ∧ i_Rel (k + 3) u' v') v v1) u v1) I ?_
  intro f_capacity f_seed f_bits f_freeCount f_top f_pairs f_pathLen f_status f_claimRoot f_claimKey f_fedLen f_node f_need f_running f_expected f_level f_count f_tn f_proofLen f_proofNodes f_nodes f_claimed a_tag a_second a_third a_hash a_kids a_freeIds a_path a_fed a_starts a_keys a_vals a_dig a_t a_proof a_proofStart a_start T V
  have T' := T
  have V' := V
  obtain ⟨mp, nd, fi, fc, n, kk, cp, S, M, hcn, hcap, h16, hnc, p0, s0⟩ := T
  obtain ⟨c, m, hc, hck, hm, hm79, _⟩ := V
  have hwl := zt_ws_len f_seed f_bits mp c
  have hfl := zt_ws_fl f_seed f_bits mp c
  unfold wpX_relay
  subst hck
  refine zx_descend S.1 hc S.2.2.1 S.2.2.2.1 ?_
  intro pa hp
  obtain ⟨P, hlen⟩ := zx_PA_of S hc hp
  dsimp only
  rw [hlen]
  refine ⟨79 + 1, ?_⟩
  refine zz_relay_l (ws := zt_ws f_seed f_bits mp c) (fun r u' h => h) T' P (by omega) hfl 79 0 _ _ _ _ _ _ _ _ _ rfl V' ?_
  intro postY H
  unfold wpY_relay
  refine zy_prove M S.1.1 hc hcn p0 ?_
  intro tn t dig proof ps P'
  exact ⟨79 + 1, H tn _ t _ dig proof ps _ s0 (by rw [P'.2 0 (by omega)]; rfl) P'.1⟩
end
section
/-! seen, rootAfterPut, rootAfterRemove -/
theorem zv_C_23 {s b : Int32} {ck : Nat} {w : Nat → Int32} {p hv : Nat} {e : Int32} {l N : Nat} {st need running : Int32} (h : st = 2 ∨ st = 3) (C : zv_C s b ck w p hv e l N st need running) : zv_fin s b ck w p hv e l N st := by
  rcases C with ⟨z, _⟩ | ⟨z, _⟩ | C
  · subst z; exact absurd h (by decide)
  · subst z; exact absurd h (by decide)
  · exact C
theorem zv_fin_g {s b : Int32} {ck : Nat} {w : Nat → Int32} {p hv : Nat} {e : Int32} {l N : Nat} {st : Int32} (C : zv_fin s b ck w p hv e l N st) : w p = 0 ∨ w p = 1 ∨ ∃ d, d ≤ 3 ∧ w p = nI (2 + d) := by
  obtain ⟨_, _, _, ⟨z, _⟩ | ⟨z, _⟩ | ⟨d, _, d2, z, _⟩⟩ := C
  · exact Or.inl z
  · exact Or.inr (Or.inl z)
  · exact Or.inr (Or.inr ⟨d, d2, z⟩)
theorem zv_fin_2 {s b : Int32} {ck : Nat} {w : Nat → Int32} {p hv : Nat} {e : Int32} {l N : Nat} (C : zv_fin s b ck w p hv e l N 2) : w p = 1 ∧ hv = 3 := by
  obtain ⟨_, h1, _, ⟨_, z⟩ | ⟨z, _⟩ | ⟨d, _, d2, _, _, z⟩⟩ := C
  · exact absurd z (by decide)
  · refine ⟨z, ?_⟩
    rw [h1]
    unfold zv_len
    rw [if_neg (by rw [z]; decide), if_pos z]
  · exact absurd z (by decide)
/-- the digits of a node that splits differ somewhere -/
theorem zv_fin_e {s b : Int32} {ck : Nat} {w : Nat → Int32} {p hv : Nat} {e : Int32} {l N : Nat} {st : Int32} (hk : ck < 65536) (h23 : st = 2 ∨ st = 3) (C : zv_fin s b ck w p hv e l N st) (h : ¬ (st = 2 ∨ w p = 0)) (h2 : ¬ (¬ w p = 1 ∧ w (p + 1) = zb_P (nI ck) (w p - 2))) :
    zr_lp (w (p + 1)) (nI ck) 4 0 = zb_fork (w (p + 1)) (nI ck) := by
  obtain ⟨ok, h1, _, C⟩ := C
  refine zr_lp_fork ?_
  intro hd
  have hl3 : 3 ≤ hv := by
    rw [h1]
    unfold zv_len
    rw [if_neg (fun z => h (Or.inr z))]
    split <;> omega
  have g1 : zv_g1 (w p) (w (p + 1)) (nI ck) l := by
    rcases ok.2.1 (by omega) with z | z
    · exact absurd (Or.inr z) h
    · exact z
  have eq := zr_dig hk g1.1 hd
  rcases C with ⟨z, _⟩ | ⟨_, z⟩ | ⟨d, _, d2, z, _, _⟩
  · exact h (Or.inr z)
  · rw [if_pos eq] at z
    exact h (Or.inl z)
  · have na := (zv_a01 d2).2
    rw [← z] at na
    refine h2 ⟨na, ?_⟩
    rcases g1.2.2 with y | y
    · exact absurd y na
    · rw [← y, eq]
theorem zv_pass_b {s b claim : Int32} {ck wn N : Nat} {w : Nat → Int32} {S : Nat → Nat} {E : Nat → Int32} {L : Nat → Nat} (Q : zv_seq s b ck claim w wn N S E L) (hw : wn ≤ 79) (hk : ck < 65536) : ∀ j, j < N → S j + 3 + zb_cnt (bt (w (S j + 2))) 16 ≤ 79 ∧ bt (w (S j + 2)) (zr_n (nI ck) (w (S j))) = true := by
  intro j hj
  have hm := zv_seq_m Q (N - (j + 1)) (j + 1) (by omega)
  have q5 := Q.2.2.2.2.1
  obtain ⟨x, x1, x2, x3, x4, x5, x6, x7, x8, x9, _⟩ := Q.2.2.2.2.2 j hj
  refine ⟨by omega, ?_⟩
  have := zr_n_D (nI ck) (w (S j))
  rw [x3, zv_am2, zv_D hk x2, nI_eq (by have := zv_n_lt ck x; omega) (by omega)] at this
  rw [x3, ← this.1]
  exact x9
section
variable {f_capacity f_seed f_bits f_freeCount f_top f_pairs f_pathLen f_status f_claimRoot f_claimKey f_fedLen f_node f_need f_running f_expected f_level f_count f_tn f_proofLen f_proofNodes f_claim f_ck f_wn f_nodes f_claimed : Int32} {a_tag a_second a_third a_hash a_kids a_freeIds a_path a_fed a_starts a_keys a_vals a_dig a_t a_proof a_proofStart a_w a_start : Nat → Int32}
/-- Y's walk over an accepted proof -/
theorem zz_walk23 {post : Int32 → SY → Prop} {c m N : Nat} {S : Nat → Nat} {E : Nat → Int32} {L : Nat → Nat} (h23 : f_status = 2 ∨ f_status = 3) (hc : c < 65536) (hck : f_claimKey = nI c) (hm : f_fedLen = nI m) (hm79 : m ≤ 79) (hcl : ¬ f_claimed = 0) (Q : zv_seq f_seed f_bits c f_claimRoot a_fed m N S E L)
    (C : zv_C f_seed f_bits c a_fed (S N) (m - S N) (E N) (L N) N f_status f_need f_running) (s0 : a_start 0 = 0)
    (H : ∀ tn t start, start 0 = 0 → (∀ i, i ≤ N → start i = nI (S i)) → start (N + 1) = nI m → post f_status (f_capacity, f_seed, f_bits, f_count, tn, f_proofLen, f_proofNodes, f_claimRoot, f_claimKey, f_fedLen, nI (N + 1), f_claimed, a_keys, a_vals, a_dig, t, a_proof, a_proofStart, a_fed, start)) : wpY_walk post (f_capacity, f_seed, f_bits, f_count, f_tn, f_proofLen, f_proofNodes, f_claimRoot, f_claimKey, f_fedLen, f_nodes, f_claimed, a_keys, a_vals, a_dig, a_t, a_proof, a_proofStart, a_fed, a_start) := by
  refine zy_walk hc hcl hm hck (by omega) s0 rfl Q C ?_
  intro tn nn t start h1 h2
  obtain ⟨h3, h4⟩ := h2 h23
  rw [h4]
  exact H tn t start (by rw [h1 0 (by omega), Q.1]; rfl) h1 h3
end
theorem i_vc_seen {k : Nat} {u : SX} {v : SY} (I : i_Rel k u v) (hk : k + 3 ≤ 1539) : wpX_seen (fun r => wpY_seen (fun r' v' => r' = r ∧ i_Rel (k + 3) u v') v) u := by
  refine zz_el (P := fun u v => wpX_seen (fun r => wpY_seen (fun r' v' => r' = r ∧ i_Rel (k + 3) u v') v) u) I ?_
  intro f_capacity f_seed f_bits f_freeCount f_top f_pairs f_pathLen f_status f_claimRoot f_claimKey f_fedLen f_node f_need f_running f_expected f_level f_count f_tn f_proofLen f_proofNodes f_nodes f_claimed a_tag a_second a_third a_hash a_kids a_freeIds a_path a_fed a_starts a_keys a_vals a_dig a_t a_proof a_proofStart a_start T V
  obtain ⟨p0, s0⟩ := zz_T_p T
  by_cases h2 : f_status = 2
  · subst h2
    have V0 := V
    obtain ⟨c, m, hc, hck, hm, hm79, ⟨hs, _⟩ | ⟨hcl, _, N, S, E, L, lk, Q, C⟩⟩ := V
    · exact absurd hs (by decide)
    · obtain ⟨f1, f2⟩ := zv_fin_2 (zv_C_23 (Or.inl rfl) C)
      have q4 := Q.2.2.2.1
      have q5 := Q.2.2.2.2.1
      obtain ⟨l1, l2, _⟩ := lk
      subst l1
      refine br_t rfl ?_
      rw [nI_clamp (by omega), l2 N (Nat.le_refl _), show nI (S N) + 2 = nI (S N + 2) from nI_add _ 2, nI_clamp (by omega)]
      refine ⟨vp_in_nI (by omega) (by omega), vp_in_nI (by omega) (by omega), ?_⟩
      unfold wpY_seen
      refine zz_walk23 (Or.inl rfl) hc hck hm hm79 hcl Q C s0 ?_
      intro tn t start hst h1 h3
      refine br_t rfl ?_
      dsimp only
      rw [show nI (N + 1) - 1 = nI N from nI_pred N, nI_clamp (by omega), h1 N (Nat.le_refl _), show nI (S N) + 2 = nI (S N + 2) from nI_add _ 2, nI_clamp (by omega)]
      exact ⟨vp_in_nI (by omega) (by omega), vp_in_nI (by omega) (by omega), rfl, zz_in (zz_T_s T hst p0) V0⟩
  · refine br_f h2 ?_
    unfold wpY_seen
    refine zz_walk V s0 ?_
    intro tn nn t start hst
    exact br_f h2 ⟨rfl, zz_in (zz_T_s T hst p0) V⟩
theorem i_vc_rootAfterPut {k : Nat} {u : SX} {v : SY} (I : i_Rel k u v) (hk : k + 3 ≤ 1539) (v1 : Int32) : wpX_rootAfterPut (fun r => wpY_rootAfterPut (fun r' v' => r' = r ∧ i_Rel (k + 3) u v') v v1) u v1 := by
  refine zz_el (P := fun u v => wpX_rootAfterPut (fun r => wpY_rootAfterPut (fun r' v' => r' = r ∧ i_Rel (k + 3) u v') v v1) u v1) I ?_
  intro f_capacity f_seed f_bits f_freeCount f_top f_pairs f_pathLen f_status f_claimRoot f_claimKey f_fedLen f_node f_need f_running f_expected f_level f_count f_tn f_proofLen f_proofNodes f_nodes f_claimed a_tag a_second a_third a_hash a_kids a_freeIds a_path a_fed a_starts a_keys a_vals a_dig a_t a_proof a_proofStart a_start T V
  obtain ⟨p0, s0⟩ := zz_T_p T
  by_cases h23 : f_status = 2 ∨ f_status = 3
  · have V0 := V
    obtain ⟨c, m, hc, hck, hm, hm79, ⟨hs, _⟩ | ⟨hcl, _, N, S, E, L, lk, Q, C⟩⟩ := V
    · rw [hs] at h23; exact absurd h23 (by decide)
    · have F := zv_C_23 h23 C
      have q4 := Q.2.2.2.1
      have q5 := Q.2.2.2.2.1
      obtain ⟨b1, b2, b3⟩ := zv_seq_b Q N (Nat.le_refl _)
      obtain ⟨lg1, lg2⟩ := zv_len_ge a_fed (S N)
      have hl : m - S N = zv_len a_fed (S N) := F.2.1
      obtain ⟨l1, l2, l3, _⟩ := lk
      subst l3
      refine zx_rootAfterPut (ck := c) (S := S) (N := N) h23 (by omega) l1 hck l2 (by omega) (zv_fin_g F) (fun j hj => (zv_pass_b Q hm79 hc j hj).1) ?_
      unfold wpY_rootAfterPut
      refine zz_walk23 h23 hc hck hm hm79 hcl Q C s0 ?_
      intro tn t start hst h1 h3
      refine nm_r (e' := nI N) (nI_pred N) ?_
      have key : wY_rootAfterPut_29 (fun r' v' => r' = (zr_climb f_seed f_bits a_fed (nI c) S N (zr_c f_seed f_bits a_fed (nI c) (S N) (E N) f_status (zh_H f_seed f_bits [1, nI c, v1]))).toInt64 ∧ i_Rel (k + 3) (f_capacity, f_seed, f_bits, f_freeCount, f_top, f_pairs, f_pathLen, f_status, f_claimRoot, f_claimKey, f_fedLen, f_node, f_need, f_running, E N, f_level, a_tag, a_second, a_third, a_hash, a_kids, a_freeIds, a_path, a_fed, a_starts) v') v1 f_status (nI N) 0 f_capacity f_seed f_bits f_count tn f_proofLen f_proofNodes f_claimRoot f_claimKey f_fedLen (nI (N + 1)) f_claimed a_keys a_vals a_dig t a_proof a_proofStart a_fed start := by
        refine zy_rap29 (ck := c) (S := S) (N := N) (p := S N) (wn := m) (E := E N) hc hck (by omega) (fun j hj => ⟨h1 j hj, ?_⟩) rfl h23 h3 q5 hm79 (by omega) F.2.2.1 (zv_fin_g F) (zv_fin_e hc h23 F) ?_
        · have := (zv_seq_b Q j hj).2.2
          omega
        · intro tn t
          exact ⟨rfl, zz_in (zz_T_s T hst p0) V0⟩
      exact br_c (fun _ => key) (fun z => br_t (h23.resolve_left z) key)
  · refine zx_rootAfterPut_no h23 ?_
    unfold wpY_rootAfterPut
    refine zz_walk V s0 ?_
    intro tn nn t start hst
    exact nm_e (br_f (fun z => h23 (Or.inl z)) (br_f (fun z => h23 (Or.inr z)) ⟨rfl, zz_in (zz_T_s T hst p0) V⟩))
theorem i_vc_rootAfterRemove {k : Nat} {u : SX} {v : SY} (I : i_Rel k u v) (hk : k + 3 ≤ 1539) : wpX_rootAfterRemove (fun r => wpY_rootAfterRemove (fun r' v' => r' = r ∧ i_Rel (k + 3) u v') v) u := by
  refine zz_el (P := fun u v => wpX_rootAfterRemove (fun r => wpY_rootAfterRemove (fun r' v' => r' = r ∧ i_Rel (k + 3) u v') v) u) I ?_
  intro f_capacity f_seed f_bits f_freeCount f_top f_pairs f_pathLen f_status f_claimRoot f_claimKey f_fedLen f_node f_need f_running f_expected f_level f_count f_tn f_proofLen f_proofNodes f_nodes f_claimed a_tag a_second a_third a_hash a_kids a_freeIds a_path a_fed a_starts a_keys a_vals a_dig a_t a_proof a_proofStart a_start T V
  obtain ⟨p0, s0⟩ := zz_T_p T
  by_cases h2 : f_status = 2
  · subst h2
    have V0 := V
    obtain ⟨c, m, hc, hck, hm, hm79, ⟨hs, _⟩ | ⟨hcl, _, N, S, E, L, lk, Q, C⟩⟩ := V
    · exact absurd hs (by decide)
    · have q4 := Q.2.2.2.1
      obtain ⟨l1, l2, l3, _⟩ := lk
      rcases N with _ | M
      · refine zx_rootAfterRemove_0 rfl l1 ?_
        have hh0 : a_hash 0 = zh_H f_seed f_bits [0] := by
          obtain ⟨mp, nd, fi, fc, n, kk, cp, XS, _⟩ := T
          exact XS.2.2.2.2.1
        rw [hh0]
        unfold wpY_rootAfterRemove
        refine zz_walk23 (Or.inl rfl) hc hck hm hm79 hcl Q C s0 ?_
        intro tn t start hst h1 h3
        refine nm_e (br_t rfl (br_f (by decide) (nm_e ?_)))
        refine zy_hash (ws := [0]) (by show 1 ≤ 20; omega) ?_ ⟨rfl, zz_in (zz_T_s T hst p0) V0⟩
        intro i y hy
        have := zy_T_lt hy
        have : i = 0 := by rw [List.length_singleton] at this; omega
        subst this
        cases hy
        exact pk_us
      · have hpb := zv_pass_b Q hm79 hc
        refine zx_rootAfterRemove_1 (ck := c) (S := S) (M := M) rfl (by omega) l1 hck (fun j hj => l2 j (by omega)) (fun j hj => (hpb j (by omega)).1) (hpb M (by omega)).2 ?_
        unfold wpY_rootAfterRemove
        refine zz_walk23 (Or.inl rfl) hc hck hm hm79 hcl Q C s0 ?_
        intro tn t start hst h1 h3
        have eM : nI (M + 1 + 1) - 2 = nI M := by rw [show (2 : Int32) = nI 2 from rfl, pk_sub (by omega)]; rfl
        have hS : ∀ j, j ≤ M → start j = nI (S j) ∧ S j ≤ 80 := fun j hj => ⟨h1 j (by omega), by have := (hpb j (by omega)).1; omega⟩
        obtain ⟨d3, d4⟩ := zr_n_D (nI c) (a_fed (S M))
        obtain ⟨q1, q2⟩ := hpb M (by omega)
        have hcc := zb_cnt_lt (bt (a_fed (S M + 2))) d4 q2
        have hle := zb_cnt_le (bt (a_fed (S M + 2))) 16
        refine nm_r (e' := nI M) eM (br_t rfl (br_t (nI_pos' (by omega)) ?_))
        dsimp only
        rw [nI_clamp (by omega), h1 M (by omega)]
        refine ⟨vp_in_nI (by omega) (by omega), nm_e ?_⟩
        rw [nI_clamp (by omega), show nI (S M) + 2 = nI (S M + 2) from nI_add _ 2, show nI (S M) + 4 = nI (S M + 4) from nI_add _ 4, nI_clamp (by omega)]
        refine ⟨vp_in_nI (by omega) (by omega), nm_e ⟨vp_in_nI (by omega) (by omega), zy_digit (zy_ones (n := 16) (by omega) ?_)⟩⟩
        have e138 : ∀ tn t, wY_rootAfterRemove_138 (fun r' v' => r' = (zr_climb f_seed f_bits a_fed (nI c) S M (zr_rem f_seed f_bits a_fed (nI c) (S M))).toInt64 ∧ i_Rel (k + 3) (f_capacity, f_seed, f_bits, f_freeCount, f_top, f_pairs, f_pathLen, 2, f_claimRoot, f_claimKey, f_fedLen, f_node, f_need, f_running, f_expected, f_level, a_tag, a_second, a_third, a_hash, a_kids, a_freeIds, a_path, a_fed, a_starts) v') (nI M) (zr_rem f_seed f_bits a_fed (nI c) (S M)) f_capacity f_seed f_bits f_count tn f_proofLen f_proofNodes f_claimRoot f_claimKey f_fedLen (nI (M + 1 + 1)) f_claimed a_keys a_vals a_dig t a_proof a_proofStart a_fed start := by
          intro tn t
          unfold wY_rootAfterRemove_138
          refine zy_climb (ck := c) (c := M) (S := S) hck (by omega) (fun j hj => hS j (by omega)) (by rw [zb_sub1]) ?_
          intro tn t
          exact ⟨rfl, zz_in (zz_T_s T hst p0) V0⟩
        rw [hck] at e138 ⊢
        rw [d3]
        by_cases hc2 : zb_cnt (bt (a_fed (S M + 2))) 16 = 2
        · refine br_t (by rw [hc2]; rfl) (zy_ones (n := zr_n (nI c) (a_fed (S M))) (by omega) ?_)
          rw [pk_sub (by omega), nI_clamp (by omega)]
          refine ⟨vp_in_nI (by omega) (by omega), ?_⟩
          have := e138 tn t
          rw [show zr_rem f_seed f_bits a_fed (nI c) (S M) = a_fed (S M + 4 - zb_cnt (bt (a_fed (S M + 2))) (zr_n (nI c) (a_fed (S M)))) by unfold zr_rem; rw [if_pos hc2]] at this ⊢
          exact this
        · refine br_f (by rw [show (2 : Int32) = nI 2 from rfl, nI_eq (by omega) (by omega)]; exact hc2) (zy_rehash (by omega) (h1 M (by omega)) d4 d3 (hS M (Nat.le_refl _)).2 ?_)
          intro tn t
          have := e138 tn t
          rw [show zr_rem f_seed f_bits a_fed (nI c) (S M) = zr_E f_seed f_bits a_fed (S M) (a_fed (S M + 2) &&& (((1 : Int32) <<< (nI (zr_n (nI c) (a_fed (S M))) &&& 31)) ^^^ (-1))) (zr_n (nI c) (a_fed (S M))) 0 by unfold zr_rem; rw [if_neg hc2]] at this ⊢
          exact this
  · by_cases h3 : f_status = 3
    · refine zx_rootAfterRemove_3 h3 ?_
      unfold wpY_rootAfterRemove
      refine zz_walk V s0 ?_
      intro tn nn t start hst
      exact nm_e (br_f h2 (br_t h3 ⟨rfl, zz_in (zz_T_s T hst p0) V⟩))
    · refine zx_rootAfterRemove_no (fun z => z.elim h2 h3) ?_
      unfold wpY_rootAfterRemove
      refine zz_walk V s0 ?_
      intro tn nn t start hst
      exact nm_e (br_f h2 (br_f h3 ⟨rfl, zz_in (zz_T_s T hst p0) V⟩))
end
section
/-! fed nodes against the nodes on the path -/
def zc_go (c : Nat) (ws : List Int32) : Prop := ∃ d, d ≤ 3 ∧ ws[0]? = some (nI (2 + d)) ∧ ws[1]? = some (zb_P (nI c) (nI d)) ∧ ∃ m, ws[2]? = some m ∧ bt m (zv_n c d) = true
theorem zc_d {d e : Nat} (hd : d ≤ 3) (he : e ≤ 3) (h : nI (2 + d) = nI (2 + e)) : d = e := by
  rw [nI_eq (by omega) (by omega)] at h; omega
theorem zc_go_pl {s b : Int32} {mp : Nat → Option Int32} (K : zt_key mp) {c : Nat} (hc : c < 65536) : ∀ h, h ≤ 4 → zt_oc mp h (c / 16 ^ h) = true → ∀ i a, (zt_pl mp c h)[i]? = some a →
    (i + 1 < (zt_pl mp c h).length → zc_go c (zt_nw s b mp a (c / 16 ^ a))) ∧ (i + 1 = (zt_pl mp c h).length → ¬ zc_go c (zt_nw s b mp a (c / 16 ^ a))) := by
  intro h
  induction h with
  | zero =>
    intro _ _ i a hi
    rw [zt_pl] at hi ⊢
    have hl := zy_T_lt' hi
    rw [List.length_singleton] at hl ⊢
    have : i = 0 := by omega
    subst this
    cases hi
    refine ⟨fun z => by omega, fun _ => ?_⟩
    rintro ⟨d, d1, d2, _⟩
    rw [zt_nw, List.getElem?_cons_zero] at d2
    exact (zv_a01 d1).2 (Option.some.inj d2).symm
  | succ h ih =>
    intro hh ho i a hi
    by_cases e : zt_kc mp h (c / 16 ^ (h + 1)) = 1
    · by_cases o : zt_oc mp h (c / 16 ^ h) = true
      · rw [zt_pl, if_pos e, if_pos o] at hi ⊢
        exact ih (by omega) o i a hi
      · rw [zt_pl, if_pos e, if_neg o] at hi ⊢
        have hl := zy_T_lt' hi
        rw [List.length_singleton] at hl ⊢
        have : i = 0 := by omega
        subst this
        cases hi
        refine ⟨fun z => by omega, fun _ => ?_⟩
        rintro ⟨d, d1, d2, d3, _⟩
        refine zt_stop2 (s := s) (b := b) (t := fun i => ((zt_nw s b mp (h + 1) (c / 16 ^ (h + 1)))[i]?).getD 0) K hc hh e ho o ?_ ?_ ?_
        · intro i y hy
          show ((zt_nw s b mp (h + 1) (c / 16 ^ (h + 1)))[i]?).getD 0 = y
          rw [hy]; rfl
        · show ¬ ((zt_nw s b mp (h + 1) (c / 16 ^ (h + 1)))[0]?).getD 0 ≤ 1
          rw [d2]
          exact nI_ge (a := 1) (by omega) (by omega)
        · show ((zt_nw s b mp (h + 1) (c / 16 ^ (h + 1)))[1]?).getD 0 = zb_P (nI c) (((zt_nw s b mp (h + 1) (c / 16 ^ (h + 1)))[0]?).getD 0 - 1 - 1)
          rw [d2, d3]
          show zb_P (nI c) (nI d) = zb_P (nI c) (nI (2 + d) - 1 - 1)
          rw [show nI (2 + d) - 1 - 1 = nI d by rw [show (1 : Int32) = nI 1 from rfl, pk_sub (by omega), pk_sub (by omega)]; exact congrArg nI (by omega)]
    · have en := zt_nw_2 (s := s) (b := b) e
      have hgo : zt_oc mp h (c / 16 ^ h) = true ↔ zc_go c (zt_nw s b mp (h + 1) (c / 16 ^ (h + 1))) := by
        have hbit : bt (zb_mk (zt_p mp h (c / 16 ^ (h + 1))) 16) (zv_n c (3 - h)) = zt_oc mp h (c / 16 ^ h) := by
          rw [zb_mk_b (zv_n_lt _ _)]
          show zt_oc mp h (16 * (c / 16 ^ (h + 1)) + zv_n c (3 - h)) = _
          unfold zv_n
          rw [show 3 - (3 - h) = h by omega, zb_dm]
        rw [en]
        constructor
        · intro o
          refine ⟨3 - h, by omega, by rw [show 2 + (3 - h) = 5 - h by omega]; rfl, ?_, _, rfl, by rw [hbit]; exact o⟩
          rw [show 3 - h = 4 - (h + 1) by omega, zb_P_nI hc (by omega)]
          rfl
        · rintro ⟨d, d1, d2, _, m, d4, d5⟩
          rw [List.getElem?_cons_zero] at d2
          have ed : d = 3 - h := by
            have := Option.some.inj d2
            rw [nI_eq (by omega) (by omega)] at this
            omega
          subst ed
          rw [List.getElem?_cons_succ, List.getElem?_cons_succ, List.getElem?_cons_zero] at d4
          cases d4
          rw [hbit] at d5
          exact d5
      by_cases o : zt_oc mp h (c / 16 ^ h) = true
      · rw [zt_pl, if_neg e, if_pos o] at hi ⊢
        have hpl := zt_pl_len mp c h
        rw [List.length_cons]
        rcases i with _ | i
        · cases hi
          refine ⟨fun _ => hgo.mp o, fun z => by omega⟩
        · obtain ⟨i1, i2⟩ := ih (by omega) o i a hi
          exact ⟨fun z => i1 (by omega), fun z => i2 (by omega)⟩
      · rw [zt_pl, if_neg e, if_neg o] at hi ⊢
        have hl := zy_T_lt' hi
        rw [List.length_singleton] at hl ⊢
        have : i = 0 := by omega
        subst this
        cases hi
        exact ⟨fun z => by omega, fun _ z => o (hgo.mpr z)⟩
theorem zc_go_ws {s b : Int32} {mp : Nat → Option Int32} (K : zt_key mp) {c : Nat} (hc : c < 65536) {i : Nat} {ws : List Int32} (hi : (zt_ws s b mp c)[i]? = some ws) :
    (i + 1 < (zt_ws s b mp c).length → zc_go c ws) ∧ (i + 1 = (zt_ws s b mp c).length → ¬ zc_go c ws) := by
  unfold zt_ws at hi ⊢
  by_cases o : zt_oc mp 4 0 = true
  · rw [if_pos o] at hi ⊢
    rw [List.length_map]
    rw [List.getElem?_map] at hi
    cases hq : (zt_pl mp c 4)[i]? with
    | none => rw [hq] at hi; cases hi
    | some a =>
      rw [hq] at hi
      cases hi
      exact zc_go_pl K hc 4 (Nat.le_refl _) (by rw [zt_k4 hc]; exact o) i a hq
  · rw [if_neg o] at hi ⊢
    have hl := zy_T_lt' hi
    rw [List.length_singleton] at hl ⊢
    have : i = 0 := by omega
    subst this
    cases hi
    refine ⟨fun z => by omega, fun _ => ?_⟩
    rintro ⟨d, d1, d2, _⟩
    rw [List.getElem?_cons_zero] at d2
    exact (zv_a01 d1).1 (Option.some.inj d2).symm
/-- words of a node are self delimiting -/
theorem zc_len {tag second third kids hash w : Nat → Int32} {id p : Nat} {ws : List Int32} (W : zt_W tag second third kids hash id ws) (h : zy_at w p ws) : zv_len w p = ws.length := by
  unfold zv_len
  obtain ⟨_, ⟨_, rfl⟩ | ⟨_, rfl⟩ | ⟨hh, q, x, h4, t1, t2, rfl, _⟩⟩ := W
  · have e0 : w p = 0 := h 0 _ rfl
    rw [if_pos e0]; rfl
  · have e0 : w p = 1 := h 0 _ rfl
    rw [if_neg (by rw [e0]; decide), if_pos e0]; rfl
  · have e0 : w p = tag id := h 0 _ rfl
    have e2 : w (p + 2) = third id := h 2 _ rfl
    obtain ⟨z0, z1, _⟩ := zb_tag hh h4
    rw [if_neg (by rw [e0, t1]; exact z0), if_neg (by rw [e0, t1]; exact z1), e2, t2, zb_cnt_ext (q := q) 16 (fun i hi => zb_mk_b hi), List.length_cons, List.length_cons, List.length_cons, zh_kl_len]
    omega
theorem zc_seg_eq {w : Nat → Int32} {p : Nat} {ws : List Int32} (h : zy_at w p ws) : zy_seg w p ws.length = ws := by
  apply List.ext_getElem?
  intro i
  by_cases hi : i < ws.length
  · have hg : ws[i]? = some (ws[i]'hi) := List.getElem?_eq_getElem hi
    rw [zy_seg_get _ hi, hg, h i _ hg]
  · rw [List.getElem?_eq_none (by rw [zy_seg_len]; omega), List.getElem?_eq_none (by omega)]
theorem zc_at_seg {w : Nat → Int32} {p n : Nat} : zy_at w p (zy_seg w p n) := by
  intro i y hy
  have hl := zy_T_lt' hy
  rw [zy_seg_len] at hl
  rw [zy_seg_get n hl] at hy
  exact Option.some.inj hy
def zc_same (w : Nat → Int32) (S : Nat → Nat) (wss : List (List Int32)) (j : Nat) : Prop := wss[j]? = some (zy_seg w (S j) (zv_len w (S j)))
theorem zc_pass_go {s b : Int32} {ck : Nat} {w : Nat → Int32} {p l p' l' : Nat} {e e' : Int32} (h : zv_pass s b ck w p l e p' l' e') : zc_go ck (zy_seg w p (zv_len w p)) ∧ p' = p + zv_len w p := by
  obtain ⟨x, x1, x2, x3, x4, x5, x6, x7, x8, x9, x10, x11⟩ := h
  have hl := zv_len_b x2 x3
  refine ⟨⟨x, x2, ?_, ?_, w (p + 2), ?_, x9⟩, by rw [hl]; exact x6⟩
  · rw [zy_seg_get _ (by omega), Nat.add_zero, x3]
  · rw [zy_seg_get _ (by omega), x8]
  · rw [zy_seg_get _ (by omega)]
theorem zc_fin_go {s b : Int32} {ck : Nat} {w : Nat → Int32} {p hv : Nat} {e : Int32} {l N : Nat} {st : Int32} (F : zv_fin s b ck w p hv e l N st) : ¬ zc_go ck (zy_seg w p (zv_len w p)) := by
  rintro ⟨d, d1, d2, d3, m, d4, d5⟩
  obtain ⟨lg1, _⟩ := zv_len_ge w p
  rw [zy_seg_get _ (by omega), Nat.add_zero] at d2
  have d2 := Option.some.inj d2
  have hl := zv_len_b d1 d2
  rw [zy_seg_get _ (by omega)] at d3 d4
  have d3 := Option.some.inj d3
  have d4 := Option.some.inj d4
  obtain ⟨_, _, _, ⟨z, _⟩ | ⟨z, _⟩ | ⟨x, _, x2, z, z2, _⟩⟩ := F
  · rw [d2] at z; exact (zv_a01 d1).1 z
  · rw [d2] at z; exact (zv_a01 d1).2 z
  · rw [d2] at z
    have := zc_d d1 x2 z
    subst this
    exact z2 ⟨d3, by rw [d4]; exact d5⟩
/-- the fed words are the path's words, if no node differs; and the other way round -/
theorem zc_main {s b claim : Int32} {c m N : Nat} {w : Nat → Int32} {S : Nat → Nat} {E : Nat → Int32} {L : Nat → Nat} {st : Int32} {tag second third kids hash pa : Nat → Int32} {wss : List (List Int32)}
    (Q : zv_seq s b c claim w m N S E L) (F : zv_fin s b c w (S N) (m - S N) (E N) (L N) N st) (P : zx_PA tag second third kids hash pa wss) (G : ∀ i ws, wss[i]? = some ws → (i + 1 < wss.length → zc_go c ws) ∧ (i + 1 = wss.length → ¬ zc_go c ws)) (h1 : 1 ≤ wss.length) :
    (∀ j, j ≤ N → j < wss.length → zc_same w S wss j) ↔ (m = wss.flatten.length ∧ zy_T w wss.flatten) := by
  have q5 := Q.2.2.2.2.1
  have hlen : m = S N + zv_len w (S N) := by have := F.2.1; omega
  have htk : ∀ j ws, wss[j]? = some ws → (wss.take (j + 1)).flatten = (wss.take j).flatten ++ ws := by
    intro j ws hj
    rw [List.take_succ, hj, List.flatten_append]
    show _ ++ [ws].flatten = _
    rw [List.flatten_singleton]
  constructor
  · intro H
    have hPS : ∀ j, j ≤ N → j < wss.length → S j = (wss.take j).flatten.length ∧ zy_T w (wss.take j).flatten := by
      intro j
      induction j with
      | zero => intro _ _; rw [List.take_zero]; exact ⟨Q.1, zy_T_nil w⟩
      | succ j ih =>
        intro hj hl
        obtain ⟨i1, i2⟩ := ih (by omega) (by omega)
        have hs := H j (by omega) (by omega)
        unfold zc_same at hs
        have hp := (zc_pass_go (Q.2.2.2.2.2 j (by omega))).2
        rw [htk j _ hs, List.length_append, zy_seg_len, ← i1]
        refine ⟨hp, ?_⟩
        intro i y hy
        by_cases hi : i < (wss.take j).flatten.length
        · rw [List.getElem?_append_left hi] at hy
          exact i2 i y hy
        · rw [List.getElem?_append_right (by omega)] at hy
          have := zc_at_seg _ _ hy
          rw [i1, show (wss.take j).flatten.length + (i - (wss.take j).flatten.length) = i by omega] at this
          exact this
    have hN : wss.length = N + 1 := by
      rcases Nat.lt_trichotomy wss.length (N + 1) with hlt | heq | hgt
      · have hs := H (wss.length - 1) (by omega) (by omega)
        have hgo := (zc_pass_go (Q.2.2.2.2.2 (wss.length - 1) (by omega))).1
        exact absurd hgo ((G _ _ hs).2 (by omega))
      · exact heq
      · have hs := H N (Nat.le_refl _) (by omega)
        exact absurd ((G _ _ hs).1 (by omega)) (zc_fin_go F)
    obtain ⟨i1, i2⟩ := hPS N (Nat.le_refl _) (by omega)
    have hs := H N (Nat.le_refl _) (by omega)
    have hfl : wss.flatten = (wss.take N).flatten ++ zy_seg w (S N) (zv_len w (S N)) := by
      rw [← htk N _ hs, ← hN, List.take_length]
    rw [hfl, List.length_append, zy_seg_len, ← i1]
    refine ⟨hlen, ?_⟩
    intro i y hy
    by_cases hi : i < (wss.take N).flatten.length
    · rw [List.getElem?_append_left hi] at hy
      exact i2 i y hy
    · rw [List.getElem?_append_right (by omega)] at hy
      have := zc_at_seg _ _ hy
      rw [i1, show (wss.take N).flatten.length + (i - (wss.take N).flatten.length) = i by omega] at this
      exact this
  · rintro ⟨_, hT⟩
    have key : ∀ j, j ≤ N → j < wss.length → S j = (wss.take j).flatten.length ∧ zc_same w S wss j := by
      have step : ∀ j, j < wss.length → S j = (wss.take j).flatten.length → zc_same w S wss j := by
        intro j hl hS
        have hg : wss[j]? = some (wss[j]'hl) := List.getElem?_eq_getElem hl
        obtain ⟨id, _, W⟩ := P j _ hg
        have hat : zy_at w (S j) (wss[j]'hl) := by
          intro i y hy
          refine hT _ _ ?_
          have e1 : wss.flatten = (wss.take (j + 1)).flatten ++ (wss.drop (j + 1)).flatten := by rw [← List.flatten_append, List.take_append_drop]
          have hil := zy_T_lt' hy
          rw [e1, htk j _ hg, List.getElem?_append_left (by rw [List.length_append]; omega), List.getElem?_append_right (by omega), hS, Nat.add_sub_cancel_left]
          exact hy
        unfold zc_same
        rw [zc_len W hat, zc_seg_eq hat]
        exact hg
      intro j
      induction j with
      | zero => intro _ hl; have e0 : S 0 = (wss.take 0).flatten.length := by rw [Q.1, List.take_zero]; rfl
                exact ⟨e0, step 0 hl e0⟩
      | succ j ih =>
        intro hj hl
        obtain ⟨i1, i2⟩ := ih (by omega) (by omega)
        have hp := (zc_pass_go (Q.2.2.2.2.2 j (by omega))).2
        have e1 : S (j + 1) = (wss.take (j + 1)).flatten.length := by
          rw [htk j _ i2, List.length_append, zy_seg_len, ← i1]; exact hp
        exact ⟨e1, step (j + 1) hl e1⟩
    exact fun j hj hl => (key j hj hl).2
end
section
/-! X's firstDifference, Y's comparison -/
def zc_N (w : Nat → Int32) (S : Nat → Nat) (N m : Nat) : Prop := (∀ j, j < N → S (j + 1) = S j + zv_len w (S j)) ∧ m = S N + zv_len w (S N) ∧ m ≤ 79 ∧ N ≤ 4
theorem zc_N_le {w : Nat → Int32} {S : Nat → Nat} {N m : Nat} (h : zc_N w S N m) : ∀ d j, j + d = N → S j + zv_len w (S j) ≤ m := by
  intro d
  induction d with
  | zero => intro j hj; have : j = N := by omega
            subst this; rw [← h.2.1]; exact Nat.le_refl _
  | succ d ih =>
    intro j hj
    have := ih (j + 1) (by omega)
    have := h.1 j (by omega)
    omega
theorem zc_N_of {s b claim : Int32} {c m N : Nat} {w : Nat → Int32} {S : Nat → Nat} {E : Nat → Int32} {L : Nat → Nat} {st : Int32} (Q : zv_seq s b c claim w m N S E L) (F : zv_fin s b c w (S N) (m - S N) (E N) (L N) N st) (h79 : m ≤ 79) : zc_N w S N m := by
  have q5 := Q.2.2.2.2.1
  exact ⟨fun j hj => (zc_pass_go (Q.2.2.2.2.2 j hj)).2, by have := F.2.1; omega, h79, Q.2.2.2.1⟩
section
variable {f_capacity f_seed f_bits f_freeCount f_top f_pairs f_pathLen f_status f_claimRoot f_claimKey f_fedLen f_node f_need f_running f_expected f_level : Int32} {a_tag a_second a_third a_hash a_kids a_freeIds a_path a_fed a_starts : Nat → Int32}
theorem zx_fedNodeLength {post : Int32 → Prop} {j N m : Nat} {S : Nat → Nat} (hj : j ≤ N) (Z : zc_N a_fed S N m) (hnode : f_node = nI N) (hst : ∀ i, i ≤ N → a_starts i = nI (S i)) (hm : f_fedLen = nI m) (H : post (nI (zv_len a_fed (S j)))) : wpX_fedNodeLength post (f_capacity, f_seed, f_bits, f_freeCount, f_top, f_pairs, f_pathLen, f_status, f_claimRoot, f_claimKey, f_fedLen, f_node, f_need, f_running, f_expected, f_level, a_tag, a_second, a_third, a_hash, a_kids, a_freeIds, a_path, a_fed, a_starts) (nI j) := by
  subst hnode hm
  obtain ⟨z1, z2, z3, z4⟩ := Z
  have v : vp_in (nI j) 5 := vp_in_nI (by omega) (by omega)
  have ej : (nI j).toNatClampNeg = j := nI_clamp (by omega)
  unfold wpX_fedNodeLength
  dsimp only
  refine zv_br_le (by omega) (by omega) rfl (fun h => ?_) (fun h => ⟨?_, ?_⟩)
  · have e : j = N := by omega
    subst e
    unfold wX_fedNodeLength_23
    rw [ej, hst j hj, pk_sub (by omega), show m - S j = zv_len a_fed (S j) by omega]
    exact ⟨v, H⟩
  · rw [nI_1]; exact vp_in_nI (by omega) (by omega)
  · have := z1 j (by omega)
    unfold wX_fedNodeLength_23
    rw [ej, hst j hj, nI_1, nI_clamp (by omega), hst (j + 1) (by omega), pk_sub (by omega), show S (j + 1) - S j = zv_len a_fed (S j) by omega]
    exact ⟨v, H⟩
theorem zx_sameNode_l {post : Int32 → Prop} {j id p : Nat} {ws : List Int32} (hj : j < 5) (hst : a_starts j = nI p) (W : zt_W a_tag a_second a_third a_kids a_hash id ws) (hl : zv_len a_fed p = ws.length) (hp : p + ws.length ≤ 79)
    (a : zy_seg a_fed p (zv_len a_fed p) = ws → post 1) (b : ¬ zy_seg a_fed p (zv_len a_fed p) = ws → post 0) :
    ∀ d i, i + d = ws.length → (∀ i' y, i' < i → ws[i']? = some y → a_fed (p + i') = y) → wX_sameNode_27 post (nI j) (nI id) (nI ws.length) f_capacity f_seed f_bits f_freeCount f_top f_pairs f_pathLen f_status f_claimRoot f_claimKey f_fedLen f_node f_need f_running f_expected f_level a_tag a_second a_third a_hash a_kids a_freeIds a_path a_fed a_starts (d + 1) (nI i) := by
  intro d
  induction d with
  | zero =>
    intro i hi h
    have e : i = ws.length := by omega
    subst e
    refine br_t (nI_le (Nat.le_refl _) (by omega)) (a ?_)
    rw [hl]
    exact zc_seg_eq (fun i y hy => h i y (zy_T_lt' hy) hy)
  | succ d ih =>
    intro i hi h
    have hg : ws[i]? = some (ws[i]'(by omega)) := List.getElem?_eq_getElem (by omega)
    refine br_f (nI_ge (by omega) (by omega)) ⟨vp_in_nI hj (by omega), ?_⟩
    rw [nI_clamp (show j < 2 ^ 31 by omega), hst, nI_add, nI_clamp (by omega)]
    refine ⟨vp_in_nI (by omega) (by omega), zx_nodeWord W hg (br_c (fun e => nm_r (nI_1 i) (ih (i + 1) (by omega) ?_)) (fun e => b (fun z => e ?_)))⟩
    · intro i' y hi' hy
      by_cases ei : i' = i
      · subst ei
        rw [hg] at hy
        cases hy
        exact e
      · exact h i' y (by omega) hy
    · have := zy_seg_get (w := a_fed) (a := p) (i := i) (zv_len a_fed p) (by omega)
      rw [z, hg] at this
      exact (Option.some.inj this).symm
theorem zx_sameNode {post : Int32 → Prop} {j id N m : Nat} {S : Nat → Nat} {ws : List Int32} (hj : j ≤ N) (Z : zc_N a_fed S N m) (hnode : f_node = nI N) (hst : ∀ i, i ≤ N → a_starts i = nI (S i)) (hm : f_fedLen = nI m) (hpa : a_path j = nI id) (W : zt_W a_tag a_second a_third a_kids a_hash id ws)
    (a : zy_seg a_fed (S j) (zv_len a_fed (S j)) = ws → post 1) (b : ¬ zy_seg a_fed (S j) (zv_len a_fed (S j)) = ws → post 0) : wpX_sameNode post (f_capacity, f_seed, f_bits, f_freeCount, f_top, f_pairs, f_pathLen, f_status, f_claimRoot, f_claimKey, f_fedLen, f_node, f_need, f_running, f_expected, f_level, a_tag, a_second, a_third, a_hash, a_kids, a_freeIds, a_path, a_fed, a_starts) (nI j) := by
  have hZ := zc_N_le Z (N - j) j (by omega)
  have h4 := Z.2.2.2
  have h79 := Z.2.2.1
  have hwl := zt_W_len W
  have hl2 := zv_len_ge a_fed (S j)
  unfold wpX_sameNode
  dsimp only
  rw [nI_clamp (by omega), hpa]
  refine ⟨vp_in_nI (by omega) (by omega), nm_e (zx_nodeLength W ?_)⟩
  refine zx_fedNodeLength hj Z hnode hst hm ?_
  by_cases e : zv_len a_fed (S j) = ws.length
  · exact br_t (by rw [e]) ⟨ws.length + 1, zx_sameNode_l (by omega) (hst j hj) W e (by omega) a b ws.length 0 (by omega) (fun i' y z => by omega)⟩
  · refine br_f (by rw [nI_eq (by omega) (by omega)]; exact e) (b (fun z => e ?_))
    rw [← z, zy_seg_len]
theorem zx_firstDiff_l {post : Int32 → Prop} {N m : Nat} {S : Nat → Nat} {wss : List (List Int32)} (Z : zc_N a_fed S N m) (hnode : f_node = nI N) (hst : ∀ i, i ≤ N → a_starts i = nI (S i)) (hm : f_fedLen = nI m) (P : zx_PA a_tag a_second a_third a_kids a_hash a_path wss) (h5 : wss.length ≤ 5) (hpl : f_pathLen = nI wss.length)
    (a : ∀ j, j ≤ N → j < wss.length → (∀ i, i < j → zc_same a_fed S wss i) → ¬ zc_same a_fed S wss j → post (nI j)) (b : (∀ j, j ≤ N → j < wss.length → zc_same a_fed S wss j) → post (-1)) :
    ∀ d j, j + d = 6 → (∀ i, i < j → i ≤ N → i < wss.length → zc_same a_fed S wss i) → wX_firstDifference_2 post f_capacity f_seed f_bits f_freeCount f_top f_pairs f_pathLen f_status f_claimRoot f_claimKey f_fedLen f_node f_need f_running f_expected f_level a_tag a_second a_third a_hash a_kids a_freeIds a_path a_fed a_starts (d + 1) (nI j) := by
  have h4 := Z.2.2.2
  subst hnode hpl
  intro d
  induction d with
  | zero =>
    intro j hj h
    refine br_t (nI_lt (by omega) (by omega)) (b (fun i x y => h i (by omega) x y))
  | succ d ih =>
    intro j hj h
    refine br_c (fun h1 => ?_) (fun h1 => ?_)
    · rw [nI_ltI (by omega) (by omega)] at h1
      exact b (fun i x y => h i (by omega) x y)
    · rw [nI_ltI (by omega) (by omega)] at h1
      refine zv_br_le (by omega) (by omega) rfl (fun h2 => b (fun i x y => h i (by omega) x y)) (fun h2 => ?_)
      have hg : wss[j]? = some (wss[j]'(by omega)) := List.getElem?_eq_getElem (by omega)
      obtain ⟨id, p1, W⟩ := P j _ hg
      refine zx_sameNode (N := N) (m := m) (S := S) (by omega) Z rfl hst hm p1 W (fun e => br_f zb_1ne0 (nm_r (nI_1 j) (ih (j + 1) (by omega) ?_))) (fun e => br_t rfl (a j (by omega) (by omega) (fun i hi => h i hi (by omega) (by omega)) ?_))
      · intro i x y z
        by_cases ei : i = j
        · subst ei
          unfold zc_same
          rw [e]
          exact hg
        · exact h i (by omega) y z
      · intro z
        unfold zc_same at z
        rw [hg] at z
        exact e (Option.some.inj z).symm
theorem zx_firstDiff {post : Int32 → Prop} {N m : Nat} {S : Nat → Nat} {wss : List (List Int32)} (Z : zc_N a_fed S N m) (hnode : f_node = nI N) (hst : ∀ i, i ≤ N → a_starts i = nI (S i)) (hm : f_fedLen = nI m) (P : zx_PA a_tag a_second a_third a_kids a_hash a_path wss) (h5 : wss.length ≤ 5) (hpl : f_pathLen = nI wss.length)
    (a : ∀ j, j ≤ N → j < wss.length → (∀ i, i < j → zc_same a_fed S wss i) → ¬ zc_same a_fed S wss j → post (nI j)) (b : (∀ j, j ≤ N → j < wss.length → zc_same a_fed S wss j) → post (-1)) : wpX_firstDifference post (f_capacity, f_seed, f_bits, f_freeCount, f_top, f_pairs, f_pathLen, f_status, f_claimRoot, f_claimKey, f_fedLen, f_node, f_need, f_running, f_expected, f_level, a_tag, a_second, a_third, a_hash, a_kids, a_freeIds, a_path, a_fed, a_starts) :=
  ⟨7, zx_firstDiff_l Z hnode hst hm P h5 hpl a b 6 0 rfl (fun i z => by omega)⟩
end
section
variable {f_capacity f_seed f_bits f_count f_tn f_proofLen f_proofNodes f_claim f_ck f_wn f_nodes f_claimed : Int32} {a_keys a_vals a_dig a_t a_proof a_proofStart a_w a_start : Nat → Int32}
theorem zy_clash59 {post : Int32 → SY → Prop} {m l : Nat} {fl : List Int32} (hm : f_wn = nI m) (hm79 : m ≤ 79) (hl : f_proofLen = nI fl.length) (hl79 : fl.length ≤ 79) (hT : zy_T a_proof fl)
    (a : (m = fl.length ∧ zy_T a_w fl) → post 12 (f_capacity, f_seed, f_bits, f_count, f_tn, f_proofLen, f_proofNodes, f_claim, f_ck, f_wn, f_nodes, f_claimed, a_keys, a_vals, a_dig, a_t, a_proof, a_proofStart, a_w, a_start)) (b : ¬ (m = fl.length ∧ zy_T a_w fl) → post 13 (f_capacity, f_seed, f_bits, f_count, f_tn, f_proofLen, f_proofNodes, f_claim, f_ck, f_wn, f_nodes, f_claimed, a_keys, a_vals, a_dig, a_t, a_proof, a_proofStart, a_w, a_start)) :
    ∀ d x y, x + d = min m fl.length → ((y = 1 ∧ m = fl.length ∧ ∀ i, i < x → fl[i]? = some (a_w i)) ∨ (y = 0 ∧ ¬ (m = fl.length ∧ zy_T a_w fl))) → wY_clash_59 post f_capacity f_seed f_bits f_count f_tn f_proofLen f_proofNodes f_claim f_ck f_wn f_nodes f_claimed a_keys a_vals a_dig a_t a_proof a_proofStart a_w a_start (d + 1) y (nI x) := by
  subst hm hl
  have fin : ∀ x y, min m fl.length ≤ x → ((y = 1 ∧ m = fl.length ∧ ∀ i, i < x → fl[i]? = some (a_w i)) ∨ (y = 0 ∧ ¬ (m = fl.length ∧ zy_T a_w fl))) → wY_clash_104 post y f_capacity f_seed f_bits f_count f_tn (nI fl.length) f_proofNodes f_claim f_ck (nI m) f_nodes f_claimed a_keys a_vals a_dig a_t a_proof a_proofStart a_w a_start := by
    intro x y hx h
    rcases h with ⟨rfl, h1, h2⟩ | ⟨rfl, h1⟩
    · refine br_f zb_1ne0 (a ⟨h1, fun i y hy => ?_⟩)
      have hil := zy_T_lt hy
      have := h2 i (by omega)
      rw [this] at hy
      exact Option.some.inj hy
    · exact br_t rfl (b h1)
  intro d
  induction d with
  | zero =>
    intro x y hx h
    by_cases hmx : m ≤ x
    · exact br_t (nI_le hmx (by omega)) (fin x y (by omega) h)
    · exact br_f (nI_ge (by omega) (by omega)) (br_t (nI_le (by omega) (by omega)) (fin x y (by omega) h))
  | succ d ih =>
    intro x y hx h
    have hg : fl[x]? = some (fl[x]'(by omega)) := List.getElem?_eq_getElem (by omega)
    refine br_f (nI_ge (by omega) (by omega)) (br_f (nI_ge (by omega) (by omega)) ⟨vp_in_nI (by omega) (by omega), vp_in_nI (by omega) (by omega), ?_⟩)
    rw [nI_clamp (by omega), hT x _ hg]
    refine br_c (fun e => nm_e (nm_r (nI_1 x) (ih (x + 1) _ (by omega) ?_))) (fun e => nm_e (nm_r (nI_1 x) (ih (x + 1) _ (by omega) ?_)))
    · rcases h with ⟨rfl, h1, h2⟩ | ⟨rfl, h1⟩
      · refine Or.inl ⟨by decide, h1, fun i hi => ?_⟩
        by_cases ei : i = x
        · subst ei; rw [hg, e]
        · exact h2 i (by omega)
      · exact Or.inr ⟨by decide, h1⟩
    · have hn : ¬ (m = fl.length ∧ zy_T a_w fl) := fun z => e (z.2 x _ hg)
      rcases h with ⟨rfl, h1, h2⟩ | ⟨rfl, h1⟩
      · exact Or.inr ⟨by decide, hn⟩
      · exact Or.inr ⟨by decide, hn⟩
end
end
section
/-! clash -/
section
variable {f_capacity f_seed f_bits f_freeCount f_top f_pairs f_pathLen f_status f_claimRoot f_claimKey f_fedLen f_node f_need f_running f_expected f_level : Int32} {a_tag a_second a_third a_hash a_kids a_freeIds a_path a_fed a_starts : Nat → Int32}
theorem zx_clash {post : Int32 → SX → Prop} {mp : Nat → Option Int32} {nd : Nat → Nat → Nat} {fi : Nat → Nat} {fc n c N m : Nat} {S : Nat → Nat} (XS : zt_XS f_seed f_bits mp nd fi fc n f_freeCount f_top f_pairs a_tag a_second a_third a_hash a_kids a_freeIds)
    (h23 : f_status = 2 ∨ f_status = 3) (hc : c < 65536) (hck : f_claimKey = nI c) (Z : zc_N a_fed S N m) (hnode : f_node = nI N) (hst : ∀ i, i ≤ N → a_starts i = nI (S i)) (hm : f_fedLen = nI m)
    (h11 : ¬ f_claimRoot = zh_H f_seed f_bits (zt_rw f_seed f_bits mp) → post 11 (f_capacity, f_seed, f_bits, f_freeCount, f_top, f_pairs, f_pathLen, f_status, f_claimRoot, f_claimKey, f_fedLen, f_node, f_need, f_running, f_expected, f_level, a_tag, a_second, a_third, a_hash, a_kids, a_freeIds, a_path, a_fed, a_starts))
    (h12 : f_claimRoot = zh_H f_seed f_bits (zt_rw f_seed f_bits mp) → (∀ j, j ≤ N → j < (zt_ws f_seed f_bits mp c).length → zc_same a_fed S (zt_ws f_seed f_bits mp c) j) → ∀ pl pa, post 12 (f_capacity, f_seed, f_bits, f_freeCount, f_top, f_pairs, pl, f_status, f_claimRoot, f_claimKey, f_fedLen, f_node, f_need, f_running, f_expected, f_level, a_tag, a_second, a_third, a_hash, a_kids, a_freeIds, pa, a_fed, a_starts))
    (h13 : f_claimRoot = zh_H f_seed f_bits (zt_rw f_seed f_bits mp) → ¬ (∀ j, j ≤ N → j < (zt_ws f_seed f_bits mp c).length → zc_same a_fed S (zt_ws f_seed f_bits mp c) j) → ∀ pl pa, post 13 (f_capacity, f_seed, f_bits, f_freeCount, f_top, f_pairs, pl, f_status, f_claimRoot, f_claimKey, f_fedLen, f_node, f_need, f_running, f_expected, f_level, a_tag, a_second, a_third, a_hash, a_kids, a_freeIds, pa, a_fed, a_starts)) : wpX_clash post (f_capacity, f_seed, f_bits, f_freeCount, f_top, f_pairs, f_pathLen, f_status, f_claimRoot, f_claimKey, f_fedLen, f_node, f_need, f_running, f_expected, f_level, a_tag, a_second, a_third, a_hash, a_kids, a_freeIds, a_path, a_fed, a_starts) := by
  have hwl := zt_ws_len f_seed f_bits mp c
  unfold wpX_clash
  refine zx_accepted (fun _ => br_f zb_1ne0 ?_) (fun z => absurd h23 z)
  refine zx_root XS ?_
  refine br_c (fun e => ?_) (fun e => h11 e)
  rw [hck]
  refine zx_descend XS.1 hc XS.2.2.1 XS.2.2.2.1 ?_
  intro pa hp
  obtain ⟨P, hlen⟩ := zx_PA_of XS hc hp
  refine zx_firstDiff (wss := zt_ws f_seed f_bits mp c) Z hnode hst hm P (by omega) (by rw [hlen]) ?_ ?_
  · intro j j1 j2 _ j4
    refine br_t (nI_pos' (by have := Z.2.2.2; omega)) ?_
    have := h13 e (fun z => j4 (z j j1 j2)) (nI (zt_ids mp nd c).length) pa
    rw [hck] at this
    exact this
  · intro h
    refine br_f (by decide) ?_
    have := h12 e h (nI (zt_ids mp nd c).length) pa
    rw [hck] at this
    exact this
theorem zx_clash_no {post : Int32 → SX → Prop} (h23 : ¬ (f_status = 2 ∨ f_status = 3)) (H : post 10 (f_capacity, f_seed, f_bits, f_freeCount, f_top, f_pairs, f_pathLen, f_status, f_claimRoot, f_claimKey, f_fedLen, f_node, f_need, f_running, f_expected, f_level, a_tag, a_second, a_third, a_hash, a_kids, a_freeIds, a_path, a_fed, a_starts)) : wpX_clash post (f_capacity, f_seed, f_bits, f_freeCount, f_top, f_pairs, f_pathLen, f_status, f_claimRoot, f_claimKey, f_fedLen, f_node, f_need, f_running, f_expected, f_level, a_tag, a_second, a_third, a_hash, a_kids, a_freeIds, a_path, a_fed, a_starts) := by
  unfold wpX_clash
  exact zx_accepted (fun z => absurd z h23) (fun _ => br_t rfl H)
end
section
variable {f_capacity f_seed f_bits f_freeCount f_top f_pairs f_pathLen f_status f_claimRoot f_claimKey f_fedLen f_node f_need f_running f_expected f_level f_count f_tn f_proofLen f_proofNodes f_claim f_ck f_wn f_nodes f_claimed : Int32} {a_tag a_second a_third a_hash a_kids a_freeIds a_path a_fed a_starts a_keys a_vals a_dig a_t a_proof a_proofStart a_w a_start : Nat → Int32}
theorem zy_clash {post : Int32 → SY → Prop} {mp : Nat → Option Int32} {kk : Nat → Nat} {c m n N : Nat} {S : Nat → Nat} {E : Nat → Int32} {L : Nat → Nat} (M : zy_M mp a_keys a_vals n kk) (K : zt_key mp) (hn : f_count = nI n) (h23 : f_status = 2 ∨ f_status = 3) (hc : c < 65536) (hck : f_claimKey = nI c) (hm : f_fedLen = nI m) (hm79 : m ≤ 79)
    (hcl : ¬ f_claimed = 0) (Q : zv_seq f_seed f_bits c f_claimRoot a_fed m N S E L) (C : zv_C f_seed f_bits c a_fed (S N) (m - S N) (E N) (L N) N f_status f_need f_running) (s0 : a_start 0 = 0) (p0 : a_proofStart 0 = 0)
    (h11 : ¬ f_claimRoot = zh_H f_seed f_bits (zt_rw f_seed f_bits mp) → ∀ tn t start dig, start 0 = 0 → post 11 (f_capacity, f_seed, f_bits, f_count, tn, f_proofLen, f_proofNodes, f_claimRoot, f_claimKey, f_fedLen, nI (N + 1), f_claimed, a_keys, a_vals, dig, t, a_proof, a_proofStart, a_fed, start))
    (h12 : f_claimRoot = zh_H f_seed f_bits (zt_rw f_seed f_bits mp) → (m = (zt_ws f_seed f_bits mp c).flatten.length ∧ zy_T a_fed (zt_ws f_seed f_bits mp c).flatten) → ∀ tn t start dig proof ps pn, start 0 = 0 → ps 0 = 0 →
      post 12 (f_capacity, f_seed, f_bits, f_count, tn, nI (zt_ws f_seed f_bits mp c).flatten.length, pn, f_claimRoot, f_claimKey, f_fedLen, nI (N + 1), f_claimed, a_keys, a_vals, dig, t, proof, ps, a_fed, start))
    (h13 : f_claimRoot = zh_H f_seed f_bits (zt_rw f_seed f_bits mp) → ¬ (m = (zt_ws f_seed f_bits mp c).flatten.length ∧ zy_T a_fed (zt_ws f_seed f_bits mp c).flatten) → ∀ tn t start dig proof ps, start 0 = 0 → ps 0 = 0 → (∀ i, i ≤ N → start i = nI (S i)) → start (N + 1) = nI m → zy_PS proof ps (zt_ws f_seed f_bits mp c) →
      post 13 (f_capacity, f_seed, f_bits, f_count, tn, nI (zt_ws f_seed f_bits mp c).flatten.length, nI (zt_ws f_seed f_bits mp c).length, f_claimRoot, f_claimKey, f_fedLen, nI (N + 1), f_claimed, a_keys, a_vals, dig, t, proof, ps, a_fed, start)) :
    wpY_clash post (f_capacity, f_seed, f_bits, f_count, f_tn, f_proofLen, f_proofNodes, f_claimRoot, f_claimKey, f_fedLen, f_nodes, f_claimed, a_keys, a_vals, a_dig, a_t, a_proof, a_proofStart, a_fed, a_start) := by
  have hwl := zt_ws_len f_seed f_bits mp c
  have hfl := zt_ws_fl f_seed f_bits mp c
  unfold wpY_clash
  refine zz_walk23 h23 hc hck hm hm79 hcl Q C s0 ?_
  intro tn t start hst h1 h3
  have key : wY_clash_18 post f_capacity f_seed f_bits f_count tn f_proofLen f_proofNodes f_claimRoot f_claimKey f_fedLen (nI (N + 1)) f_claimed a_keys a_vals a_dig t a_proof a_proofStart a_fed start := by
    unfold wY_clash_18
    refine zy_root M hn ?_
    intro tn t dig _
    refine br_c (fun e => ?_) (fun e => h11 e _ _ _ _ hst)
    subst hck
    refine zy_prove M K hc hn p0 ?_
    intro tn t dig proof ps P
    have hp0 : ps 0 = 0 := by rw [P.2 0 (by omega)]; rfl
    have cl := zy_clash59 (post := post) (f_capacity := f_capacity) (f_seed := f_seed) (f_bits := f_bits) (f_count := f_count) (f_tn := tn) (f_proofLen := nI (zt_ws f_seed f_bits mp c).flatten.length) (f_proofNodes := nI (zt_ws f_seed f_bits mp c).length) (f_claim := f_claimRoot) (f_ck := nI c) (f_wn := f_fedLen) (f_nodes := nI (N + 1)) (f_claimed := f_claimed) (a_keys := a_keys) (a_vals := a_vals) (a_dig := dig) (a_t := t) (a_proof := proof) (a_proofStart := ps) (a_w := a_fed) (a_start := start) (l := 0) hm hm79 rfl hfl P.1 (fun z => h12 e z _ _ _ _ _ _ _ hst hp0) (fun z => h13 e z _ _ _ _ _ _ hst hp0 h1 h3 P)
    refine br_c (fun e2 => ⟨_, cl (min m (zt_ws f_seed f_bits mp c).flatten.length) 0 1 (by omega) (Or.inl ⟨rfl, ?_, fun i z => by omega⟩)⟩) (fun e2 => ⟨_, cl (min m (zt_ws f_seed f_bits mp c).flatten.length) 0 0 (by omega) (Or.inr ⟨rfl, fun z => e2 ?_⟩)⟩)
    · rw [hm, nI_eq (by omega) (by omega)] at e2
      exact e2
    · rw [hm, z.1]
  exact br_c (fun _ => key) (fun z => br_t (h23.resolve_left z) key)
theorem zy_clash_no {post : Int32 → SY → Prop} (V : zz_V f_seed f_bits f_status f_claimRoot f_claimKey f_fedLen f_node f_need f_running f_expected f_level a_fed a_starts f_claimed) (s0 : a_start 0 = 0) (h23 : ¬ (f_status = 2 ∨ f_status = 3))
    (H : ∀ tn nn t start, start 0 = 0 → post 10 (f_capacity, f_seed, f_bits, f_count, tn, f_proofLen, f_proofNodes, f_claimRoot, f_claimKey, f_fedLen, nn, f_claimed, a_keys, a_vals, a_dig, t, a_proof, a_proofStart, a_fed, start)) : wpY_clash post (f_capacity, f_seed, f_bits, f_count, f_tn, f_proofLen, f_proofNodes, f_claimRoot, f_claimKey, f_fedLen, f_nodes, f_claimed, a_keys, a_vals, a_dig, a_t, a_proof, a_proofStart, a_fed, a_start) := by
  unfold wpY_clash
  refine zz_walk V s0 ?_
  intro tn nn t start hst
  exact br_f (fun z => h23 (Or.inl z)) (br_f (fun z => h23 (Or.inr z)) (H tn nn t start hst))
end
theorem i_vc_clash {k : Nat} {u : SX} {v : SY} (I : i_Rel k u v) (hk : k + 3 ≤ 1539) : wpX_clash (fun r u' => wpY_clash (fun r' v' => r' = r ∧ i_Rel (k + 3) u' v') v) u := by
  refine zz_el (P := fun u v => wpX_clash (fun r u' => wpY_clash (fun r' v' => r' = r ∧ i_Rel (k + 3) u' v') v) u) I ?_
  intro f_capacity f_seed f_bits f_freeCount f_top f_pairs f_pathLen f_status f_claimRoot f_claimKey f_fedLen f_node f_need f_running f_expected f_level f_count f_tn f_proofLen f_proofNodes f_nodes f_claimed a_tag a_second a_third a_hash a_kids a_freeIds a_path a_fed a_starts a_keys a_vals a_dig a_t a_proof a_proofStart a_start T V
  obtain ⟨p0, s0⟩ := zz_T_p T
  have T0 := T
  have V0 := V
  by_cases h23 : f_status = 2 ∨ f_status = 3
  · obtain ⟨mp, nd, fi, fc, n, kk, cp, XS, M, hcn, hcap, h16, hnc, _, _⟩ := T
    obtain ⟨c, m, hc, hck, hm, hm79, ⟨hs, _⟩ | ⟨hcl, _, N, S, E, L, lk, Q, C⟩⟩ := V
    · rw [hs] at h23; exact absurd h23 (by decide)
    · have F := zv_C_23 h23 C
      have Z := zc_N_of Q F hm79
      have hwl := zt_ws_len f_seed f_bits mp c
      obtain ⟨l1, l2, l3, _⟩ := lk
      have hiff : ∀ pa, zx_PA a_tag a_second a_third a_kids a_hash pa (zt_ws f_seed f_bits mp c) → ((∀ j, j ≤ N → j < (zt_ws f_seed f_bits mp c).length → zc_same a_fed S (zt_ws f_seed f_bits mp c) j) ↔ (m = (zt_ws f_seed f_bits mp c).flatten.length ∧ zy_T a_fed (zt_ws f_seed f_bits mp c).flatten)) :=
        fun pa P => zc_main Q F P (fun i ws hi => zc_go_ws XS.1.1 hc hi) hwl.1
      have PA := (zx_PA_of (pa := fun i => nI (((zt_ids mp nd c)[i]?).getD 0)) XS hc (fun i a hi => by show nI (((zt_ids mp nd c)[i]?).getD 0) = nI a; rw [hi]; rfl)).1
      have hiff := hiff _ PA
      refine zx_clash XS h23 hc hck Z l1 l2 hm ?_ ?_ ?_
      · intro e
        refine zy_clash M XS.1.1 hcn h23 hc hck hm hm79 hcl Q C s0 p0 (fun _ tn t start dig hst => ⟨rfl, zz_in (zz_T_s T0 hst p0) V0⟩) (fun z => absurd z e) (fun z => absurd z e)
      · intro e h pl pa
        refine zy_clash M XS.1.1 hcn h23 hc hck hm hm79 hcl Q C s0 p0 (fun z => absurd e z) (fun _ _ tn t start dig proof ps pn hst hps => ⟨rfl, zz_in (zz_T_s T0 hst hps) V0⟩) (fun _ z => absurd (hiff.mp h) z)
      · intro e h pl pa
        refine zy_clash M XS.1.1 hcn h23 hc hck hm hm79 hcl Q C s0 p0 (fun z => absurd e z) (fun _ z => absurd (hiff.mpr z) h) (fun _ _ tn t start dig proof ps hst hps _ _ _ => ⟨rfl, zz_in (zz_T_s T0 hst hps) V0⟩)
  · refine zx_clash_no h23 ?_
    refine zy_clash_no V s0 h23 ?_
    intro tn nn t start hst
    exact ⟨rfl, zz_in (zz_T_s T hst p0) V⟩
end
section
/-! clashWord -/
def zc_ans (w : Nat → Int32) (p len : Nat) (ws : List Int32) (side : Int32) (i : Nat) : Int64 :=
  if side = 0 ∧ i < len then (w (p + i)).toInt64 else if side = 1 ∧ i < ws.length then ((ws[i]?).getD 0).toInt64 else 4294967296
section
variable {f_capacity f_seed f_bits f_freeCount f_top f_pairs f_pathLen f_status f_claimRoot f_claimKey f_fedLen f_node f_need f_running f_expected f_level : Int32} {a_tag a_second a_third a_hash a_kids a_freeIds a_path a_fed a_starts : Nat → Int32}
theorem zx_cw58 {post : Int64 → SX → Prop} {w : Nat → Int32} {p len i j id : Nat} {ws : List Int32} {side : Int32} (hno : ¬ (side = 0 ∧ i < len)) (hi : i < 2 ^ 31) (hj : j < 5) (hpa : a_path j = nI id) (W : zt_W a_tag a_second a_third a_kids a_hash id ws) (H : post (zc_ans w p len ws side i) (f_capacity, f_seed, f_bits, f_freeCount, f_top, f_pairs, f_pathLen, f_status, f_claimRoot, f_claimKey, f_fedLen, f_node, f_need, f_running, f_expected, f_level, a_tag, a_second, a_third, a_hash, a_kids, a_freeIds, a_path, a_fed, a_starts)) : wX_clashWord_58 post side (nI i) (nI j) f_capacity f_seed f_bits f_freeCount f_top f_pairs f_pathLen f_status f_claimRoot f_claimKey f_fedLen f_node f_need f_running f_expected f_level a_tag a_second a_third a_hash a_kids a_freeIds a_path a_fed a_starts := by
  have hwl := zt_W_len W
  unfold zc_ans at H
  rw [if_neg hno] at H
  unfold wX_clashWord_58
  rw [nI_clamp (by omega), hpa]
  refine br_c (fun h => ⟨vp_in_nI hj (by omega), zx_nodeLength W (zv_br_le (by omega) hi rfl (fun h2 => ?_) (fun h2 => ⟨vp_in_nI hj (by omega), ?_⟩))⟩) (fun h => ?_)
  · rw [if_neg (fun z => by omega)] at H; exact H
  · rw [if_pos ⟨h, by omega⟩] at H
    have hg : ws[i]? = some (ws[i]'(by omega)) := List.getElem?_eq_getElem (by omega)
    refine zx_nodeWord W hg ?_
    rw [hg] at H
    exact H
  · rw [if_neg (fun z => h z.1)] at H; exact H
theorem zx_clashWord_neg {post : Int64 → SX → Prop} {side x : Int32} (h : x < 0) (H : post 4294967296 (f_capacity, f_seed, f_bits, f_freeCount, f_top, f_pairs, f_pathLen, f_status, f_claimRoot, f_claimKey, f_fedLen, f_node, f_need, f_running, f_expected, f_level, a_tag, a_second, a_third, a_hash, a_kids, a_freeIds, a_path, a_fed, a_starts)) : wpX_clashWord post (f_capacity, f_seed, f_bits, f_freeCount, f_top, f_pairs, f_pathLen, f_status, f_claimRoot, f_claimKey, f_fedLen, f_node, f_need, f_running, f_expected, f_level, a_tag, a_second, a_third, a_hash, a_kids, a_freeIds, a_path, a_fed, a_starts) side x := br_t h H
theorem zx_clashWord_no {post : Int64 → SX → Prop} {side x : Int32} (h : ¬ x < 0) (h23 : ¬ (f_status = 2 ∨ f_status = 3)) (H : post 4294967296 (f_capacity, f_seed, f_bits, f_freeCount, f_top, f_pairs, f_pathLen, f_status, f_claimRoot, f_claimKey, f_fedLen, f_node, f_need, f_running, f_expected, f_level, a_tag, a_second, a_third, a_hash, a_kids, a_freeIds, a_path, a_fed, a_starts)) : wpX_clashWord post (f_capacity, f_seed, f_bits, f_freeCount, f_top, f_pairs, f_pathLen, f_status, f_claimRoot, f_claimKey, f_fedLen, f_node, f_need, f_running, f_expected, f_level, a_tag, a_second, a_third, a_hash, a_kids, a_freeIds, a_path, a_fed, a_starts) side x := by
  unfold wpX_clashWord
  refine br_f h ?_
  refine zx_clash_no h23 ?_
  exact br_f (by decide) H
theorem zx_clashWord {post : Int64 → SX → Prop} {mp : Nat → Option Int32} {nd : Nat → Nat → Nat} {fi : Nat → Nat} {fc n c N m i : Nat} {S : Nat → Nat} {side : Int32} (XS : zt_XS f_seed f_bits mp nd fi fc n f_freeCount f_top f_pairs a_tag a_second a_third a_hash a_kids a_freeIds)
    (h23 : f_status = 2 ∨ f_status = 3) (hc : c < 65536) (hck : f_claimKey = nI c) (Z : zc_N a_fed S N m) (hnode : f_node = nI N) (hst : ∀ i, i ≤ N → a_starts i = nI (S i)) (hm : f_fedLen = nI m) (hi : i < 2 ^ 31)
    (h11 : ¬ f_claimRoot = zh_H f_seed f_bits (zt_rw f_seed f_bits mp) → post 4294967296 (f_capacity, f_seed, f_bits, f_freeCount, f_top, f_pairs, f_pathLen, f_status, f_claimRoot, f_claimKey, f_fedLen, f_node, f_need, f_running, f_expected, f_level, a_tag, a_second, a_third, a_hash, a_kids, a_freeIds, a_path, a_fed, a_starts))
    (h12 : f_claimRoot = zh_H f_seed f_bits (zt_rw f_seed f_bits mp) → (∀ j, j ≤ N → j < (zt_ws f_seed f_bits mp c).length → zc_same a_fed S (zt_ws f_seed f_bits mp c) j) → ∀ pl pa, post 4294967296 (f_capacity, f_seed, f_bits, f_freeCount, f_top, f_pairs, pl, f_status, f_claimRoot, f_claimKey, f_fedLen, f_node, f_need, f_running, f_expected, f_level, a_tag, a_second, a_third, a_hash, a_kids, a_freeIds, pa, a_fed, a_starts))
    (h13 : f_claimRoot = zh_H f_seed f_bits (zt_rw f_seed f_bits mp) → ∀ j ws, j ≤ N → (zt_ws f_seed f_bits mp c)[j]? = some ws → (∀ i, i < j → zc_same a_fed S (zt_ws f_seed f_bits mp c) i) → ¬ zc_same a_fed S (zt_ws f_seed f_bits mp c) j → ∀ pl pa, post (zc_ans a_fed (S j) (zv_len a_fed (S j)) ws side i) (f_capacity, f_seed, f_bits, f_freeCount, f_top, f_pairs, pl, f_status, f_claimRoot, f_claimKey, f_fedLen, f_node, f_need, f_running, f_expected, f_level, a_tag, a_second, a_third, a_hash, a_kids, a_freeIds, pa, a_fed, a_starts)) :
    wpX_clashWord post (f_capacity, f_seed, f_bits, f_freeCount, f_top, f_pairs, f_pathLen, f_status, f_claimRoot, f_claimKey, f_fedLen, f_node, f_need, f_running, f_expected, f_level, a_tag, a_second, a_third, a_hash, a_kids, a_freeIds, a_path, a_fed, a_starts) side (nI i) := by
  have hwl := zt_ws_len f_seed f_bits mp c
  have z4 := Z.2.2.2
  have z79 := Z.2.2.1
  unfold wpX_clashWord
  refine br_f (nI_pos hi) ?_
  refine zx_clash XS h23 hc hck Z hnode hst hm (fun e => br_f (by decide) (h11 e)) (fun e h pl pa => br_f (by decide) (h12 e h pl pa)) ?_
  intro e hdif pl pa
  refine br_t rfl ?_
  subst hck
  refine zx_descend XS.1 hc XS.2.2.1 XS.2.2.2.1 ?_
  intro pa' hp
  obtain ⟨P, hlen⟩ := zx_PA_of XS hc hp
  refine zx_firstDiff (wss := zt_ws f_seed f_bits mp c) Z hnode hst hm P (by omega) (by rw [hlen]) ?_ (fun h => absurd h hdif)
  intro j j1 j2 j3 j4
  have hg : (zt_ws f_seed f_bits mp c)[j]? = some ((zt_ws f_seed f_bits mp c)[j]'j2) := List.getElem?_eq_getElem j2
  generalize (zt_ws f_seed f_bits mp c)[j]'j2 = ws at hg
  obtain ⟨id, p1, W⟩ := P j ws hg
  have hle := zc_N_le Z (N - j) j (by omega)
  have hlg := zv_len_ge a_fed (S j)
  have H := h13 e j ws j1 hg j3 j4 (nI (zt_ids mp nd c).length) pa'
  refine br_c (fun h0 => ?_) (fun h0 => zx_cw58 (w := a_fed) (p := S j) (len := zv_len a_fed (S j)) (fun z => h0 z.1) hi (by omega) p1 W H)
  refine zx_fedNodeLength j1 Z hnode hst hm (zv_br_le (by omega) hi rfl (fun h => zx_cw58 (w := a_fed) (p := S j) (len := zv_len a_fed (S j)) (fun z => by omega) hi (by omega) p1 W H) (fun h => ?_))
  rw [nI_clamp (show j < 2 ^ 31 by omega), hst j j1, nI_add, nI_clamp (by omega)]
  refine ⟨vp_in_nI (by omega) (by omega), vp_in_nI (by omega) (by omega), ?_⟩
  unfold zc_ans at H
  rw [if_pos ⟨h0, by omega⟩] at H
  exact H
end
section
variable {f_capacity f_seed f_bits f_count f_tn f_proofLen f_proofNodes f_claim f_ck f_wn f_nodes f_claimed : Int32} {a_keys a_vals a_dig a_t a_proof a_proofStart a_w a_start : Nat → Int32}
theorem zy_cw147 {post : Int64 → SY → Prop} {J : Int32 → Prop} {p q la i j : Nat} {ws : List Int32} {side y : Int32} (hi : i < 2 ^ 31) (hp : p + la ≤ 100) (hq : q + ws.length ≤ 80) (hla : la ≤ 19) (hw : zy_at a_proof q ws)
    (Hs : ¬ y = 0 → J (nI (j + 1))) (Hd : y = 0 → post (zc_ans a_w p la ws side i) (f_capacity, f_seed, f_bits, f_count, f_tn, f_proofLen, f_proofNodes, f_claim, f_ck, f_wn, f_nodes, f_claimed, a_keys, a_vals, a_dig, a_t, a_proof, a_proofStart, a_w, a_start)) : wY_clashWord_147 post J side (nI i) (nI j) (nI p) (nI q) (nI la) (nI ws.length) y f_capacity f_seed f_bits f_count f_tn f_proofLen f_proofNodes f_claim f_ck f_wn f_nodes f_claimed a_keys a_vals a_dig a_t a_proof a_proofStart a_w a_start := by
  refine br_c (fun h => ?_) (fun h => nm_r (nI_1 j) (Hs h))
  have H := Hd h
  unfold zc_ans at H
  have k175 : ¬ (side = 0 ∧ i < la) → wY_clashWord_175 post side (nI i) (nI q) (nI ws.length) f_capacity f_seed f_bits f_count f_tn f_proofLen f_proofNodes f_claim f_ck f_wn f_nodes f_claimed a_keys a_vals a_dig a_t a_proof a_proofStart a_w a_start := by
    intro hno
    rw [if_neg hno] at H
    refine br_c (fun h1 => zv_br_le (by omega) hi rfl (fun h2 => ?_) (fun h2 => ?_)) (fun h1 => ?_)
    · rw [if_neg (fun z => by omega)] at H; exact H
    · rw [if_pos ⟨h1, by omega⟩] at H
      have hg : ws[i]? = some (ws[i]'(by omega)) := List.getElem?_eq_getElem (by omega)
      rw [nI_add, nI_clamp (by omega), hw i _ hg]
      rw [hg] at H
      exact ⟨vp_in_nI (by omega) (by omega), H⟩
    · rw [if_neg (fun z => h1 z.1)] at H; exact H
  refine br_c (fun h0 => zv_br_le (by omega) hi rfl (fun h2 => k175 (fun z => by omega)) (fun h2 => ?_)) (fun h0 => k175 (fun z => h0 z.1))
  rw [if_pos ⟨h0, by omega⟩] at H
  rw [nI_add, nI_clamp (by omega)]
  exact ⟨vp_in_nI (by omega) (by omega), H⟩
theorem zy_cw94 {post : Int64 → SY → Prop} {J : Int32 → Prop} {p q la : Nat} {ws : List Int32} {side x2 x3 : Int32} (hp : p + la ≤ 100) (hq : q + ws.length ≤ 80) (hw : zy_at a_proof q ws)
    (K : ∀ y, ((y = 1 ∧ zy_seg a_w p la = ws) ∨ (y = 0 ∧ ¬ zy_seg a_w p la = ws)) → wY_clashWord_147 post J side x2 x3 (nI p) (nI q) (nI la) (nI ws.length) y f_capacity f_seed f_bits f_count f_tn f_proofLen f_proofNodes f_claim f_ck f_wn f_nodes f_claimed a_keys a_vals a_dig a_t a_proof a_proofStart a_w a_start) :
    ∀ d x y, x + d = min la ws.length → ((y = 1 ∧ la = ws.length ∧ ∀ i, i < x → ws[i]? = some (a_w (p + i))) ∨ (y = 0 ∧ ¬ zy_seg a_w p la = ws)) → wY_clashWord_94 post J side x2 x3 (nI p) (nI q) (nI la) (nI ws.length) f_capacity f_seed f_bits f_count f_tn f_proofLen f_proofNodes f_claim f_ck f_wn f_nodes f_claimed a_keys a_vals a_dig a_t a_proof a_proofStart a_w a_start (d + 1) y (nI x) := by
  have fin : ∀ x y, min la ws.length ≤ x → ((y = 1 ∧ la = ws.length ∧ ∀ i, i < x → ws[i]? = some (a_w (p + i))) ∨ (y = 0 ∧ ¬ zy_seg a_w p la = ws)) → wY_clashWord_147 post J side x2 x3 (nI p) (nI q) (nI la) (nI ws.length) y f_capacity f_seed f_bits f_count f_tn f_proofLen f_proofNodes f_claim f_ck f_wn f_nodes f_claimed a_keys a_vals a_dig a_t a_proof a_proofStart a_w a_start := by
    intro x y hx h
    rcases h with ⟨rfl, h1, h2⟩ | h
    · refine K 1 (Or.inl ⟨rfl, ?_⟩)
      rw [h1]
      refine zc_seg_eq (fun i y hy => ?_)
      have hil := zy_T_lt' hy
      rw [h2 i (by omega)] at hy
      exact Option.some.inj hy
    · exact K y (Or.inr h)
  intro d
  induction d with
  | zero =>
    intro x y hx h
    by_cases hmx : la ≤ x
    · exact br_t (nI_le hmx (by omega)) (fin x y (by omega) h)
    · exact br_f (nI_ge (by omega) (by omega)) (br_t (nI_le (by omega) (by omega)) (fin x y (by omega) h))
  | succ d ih =>
    intro x y hx h
    have hg : ws[x]? = some (ws[x]'(by omega)) := List.getElem?_eq_getElem (by omega)
    refine br_f (nI_ge (by omega) (by omega)) (br_f (nI_ge (by omega) (by omega)) ?_)
    rw [nI_add, nI_add, nI_clamp (by omega), nI_clamp (by omega), hw x _ hg]
    refine ⟨vp_in_nI (by omega) (by omega), vp_in_nI (by omega) (by omega), br_c (fun e => nm_e (nm_r (nI_1 x) (ih (x + 1) _ (by omega) ?_))) (fun e => nm_e (nm_r (nI_1 x) (ih (x + 1) _ (by omega) ?_)))⟩
    · rcases h with ⟨rfl, h1, h2⟩ | ⟨rfl, h1⟩
      · refine Or.inl ⟨by decide, h1, fun i hi => ?_⟩
        by_cases ei : i = x
        · subst ei; rw [hg, e]
        · exact h2 i (by omega)
      · exact Or.inr ⟨by decide, h1⟩
    · have hn : ¬ zy_seg a_w p la = ws := by
        intro z
        have := zy_seg_get (w := a_w) (a := p) (i := x) la (by omega)
        rw [z, hg] at this
        exact e (Option.some.inj this).symm
      rcases h with ⟨rfl, h1, h2⟩ | ⟨rfl, h1⟩
      · exact Or.inr ⟨by decide, hn⟩
      · exact Or.inr ⟨by decide, hn⟩
theorem zc_at_ps {proof ps : Nat → Int32} {wss : List (List Int32)} (P : zy_PS proof ps wss) {j : Nat} {ws : List Int32} (hj : wss[j]? = some ws) : zy_at proof (wss.take j).flatten.length ws ∧ ps j = nI (wss.take j).flatten.length ∧ ps (j + 1) = nI ((wss.take j).flatten.length + ws.length) ∧ (wss.take j).flatten.length + ws.length ≤ wss.flatten.length := by
  have hl := zy_T_lt' hj
  have htk : (wss.take (j + 1)).flatten = (wss.take j).flatten ++ ws := by
    rw [List.take_succ, hj, List.flatten_append]
    show _ ++ [ws].flatten = _
    rw [List.flatten_singleton]
  have e1 : wss.flatten = (wss.take (j + 1)).flatten ++ (wss.drop (j + 1)).flatten := by rw [← List.flatten_append, List.take_append_drop]
  refine ⟨?_, P.2 j (by omega), ?_, ?_⟩
  · intro i y hy
    refine P.1 _ _ ?_
    have hil := zy_T_lt' hy
    rw [e1, htk, List.getElem?_append_left (by rw [List.length_append]; omega), List.getElem?_append_right (by omega), Nat.add_sub_cancel_left]
    exact hy
  · rw [P.2 (j + 1) (by omega), htk, List.length_append]
  · rw [e1, htk, List.length_append, List.length_append]; omega
theorem zy_cw19 {post : Int64 → SY → Prop} {N m i j0 : Nat} {S : Nat → Nat} {wss : List (List Int32)} {ws0 : List Int32} {side : Int32} (Z : zc_N a_w S N m) (hnn : f_nodes = nI (N + 1)) (hpn : f_proofNodes = nI wss.length) (h5 : wss.length ≤ 5) (hfl : wss.flatten.length ≤ 79) (hs : ∀ j, j ≤ N → a_start j = nI (S j)) (hs1 : a_start (N + 1) = nI m) (P : zy_PS a_proof a_proofStart wss) (hi : i < 2 ^ 31)
    (j1 : j0 ≤ N) (hg0 : wss[j0]? = some ws0) (j3 : ∀ j, j < j0 → zc_same a_w S wss j) (j4 : ¬ zc_same a_w S wss j0) (H : post (zc_ans a_w (S j0) (zv_len a_w (S j0)) ws0 side i) (f_capacity, f_seed, f_bits, f_count, f_tn, f_proofLen, f_proofNodes, f_claim, f_ck, f_wn, f_nodes, f_claimed, a_keys, a_vals, a_dig, a_t, a_proof, a_proofStart, a_w, a_start)) :
    ∀ d j, j + d = j0 → wY_clashWord_19 post side (nI i) f_capacity f_seed f_bits f_count f_tn f_proofLen f_proofNodes f_claim f_ck f_wn f_nodes f_claimed a_keys a_vals a_dig a_t a_proof a_proofStart a_w a_start (d + 1) (nI j) := by
  subst hnn hpn
  have z4 := Z.2.2.2
  have z79 := Z.2.2.1
  have hj0 := zy_T_lt' hg0
  have hstart : ∀ j, j ≤ N → a_start (j + 1) = nI (S j + zv_len a_w (S j)) := by
    intro j hj
    by_cases e : j = N
    · subst e; rw [hs1, Z.2.1]
    · rw [hs (j + 1) (by omega), Z.1 j (by omega)]
  intro d
  induction d with
  | zero =>
    intro j hj
    have e : j = j0 := by omega
    subst e
    obtain ⟨q1, q2, q3, q4⟩ := zc_at_ps P hg0
    have hle := zc_N_le Z (N - j) j (by omega)
    have hlg := zv_len_ge a_w (S j)
    refine br_f (nI_ge (by omega) (by omega)) (br_f (nI_ge (by omega) (by omega)) ?_)
    rw [nI_1, nI_clamp (show j < 2 ^ 31 by omega), nI_clamp (show j + 1 < 2 ^ 31 by omega), hs j j1, hstart j j1, q2, q3]
    refine ⟨vp_in_nI (by omega) (by omega), nm_e ⟨vp_in_nI (by omega) (by omega), nm_e ⟨vp_in_nI (by omega) (by omega), nm_r (e' := nI (zv_len a_w (S j))) (by rw [pk_sub (by omega)]; exact congrArg nI (by omega)) ⟨vp_in_nI (by omega) (by omega), nm_r (e' := nI ws0.length) (by rw [pk_sub (by omega)]; exact congrArg nI (by omega)) ?_⟩⟩⟩⟩
    have K := zy_cw94 (post := post) (J := wY_clashWord_19 post side (nI i) f_capacity f_seed f_bits f_count f_tn f_proofLen (nI wss.length) f_claim f_ck f_wn (nI (N + 1)) f_claimed a_keys a_vals a_dig a_t a_proof a_proofStart a_w a_start 0) (side := side) (x2 := nI i) (x3 := nI j) (a_w := a_w) (p := S j) (q := (wss.take j).flatten.length) (la := zv_len a_w (S j)) (ws := ws0) (f_capacity := f_capacity) (f_seed := f_seed) (f_bits := f_bits) (f_count := f_count) (f_tn := f_tn) (f_proofLen := f_proofLen) (f_proofNodes := nI wss.length) (f_claim := f_claim) (f_ck := f_ck) (f_wn := f_wn) (f_nodes := nI (N + 1)) (f_claimed := f_claimed) (a_keys := a_keys) (a_vals := a_vals) (a_dig := a_dig) (a_t := a_t) (a_proof := a_proof) (a_proofStart := a_proofStart) (a_start := a_start) (by omega) (by omega) q1 (by
      intro y hy
      have hns : ¬ zy_seg a_w (S j) (zv_len a_w (S j)) = ws0 := by
        intro z
        apply j4
        unfold zc_same
        rw [z]; exact hg0
      rcases hy with ⟨_, z⟩ | ⟨hy, _⟩
      · exact absurd z hns
      · exact zy_cw147 hi (by omega) (by omega) hlg.2 q1 (fun z => absurd hy z) (fun _ => H))
    refine br_c (fun e => ⟨_, K _ 0 1 (by rw [Nat.zero_add]) (Or.inl ⟨rfl, ?_, fun i z => by omega⟩)⟩) (fun e => ⟨_, K _ 0 0 (by rw [Nat.zero_add]) (Or.inr ⟨rfl, fun z => e ?_⟩)⟩)
    · rw [nI_eq (by omega) (by omega)] at e; exact e
    · rw [← z, zy_seg_len]
  | succ d ih =>
    intro j hj
    have hsame := j3 j (by omega)
    unfold zc_same at hsame
    obtain ⟨q1, q2, q3, q4⟩ := zc_at_ps P hsame
    rw [zy_seg_len] at q3 q4
    have hle := zc_N_le Z (N - j) j (by omega)
    have hlg := zv_len_ge a_w (S j)
    refine br_f (nI_ge (by omega) (by omega)) (br_f (nI_ge (by omega) (by omega)) ?_)
    rw [nI_1, nI_clamp (show j < 2 ^ 31 by omega), nI_clamp (show j + 1 < 2 ^ 31 by omega), hs j (by omega), hstart j (by omega), q2, q3]
    refine ⟨vp_in_nI (by omega) (by omega), nm_e ⟨vp_in_nI (by omega) (by omega), nm_e ⟨vp_in_nI (by omega) (by omega), nm_r (e' := nI (zv_len a_w (S j))) (by rw [pk_sub (by omega)]; exact congrArg nI (by omega)) ⟨vp_in_nI (by omega) (by omega), nm_r (e' := nI (zv_len a_w (S j))) (by rw [pk_sub (by omega)]; exact congrArg nI (by omega)) ?_⟩⟩⟩⟩
    have K := zy_cw94 (post := post) (J := wY_clashWord_19 post side (nI i) f_capacity f_seed f_bits f_count f_tn f_proofLen (nI wss.length) f_claim f_ck f_wn (nI (N + 1)) f_claimed a_keys a_vals a_dig a_t a_proof a_proofStart a_w a_start (d + 1)) (side := side) (x2 := nI i) (x3 := nI j) (a_w := a_w) (p := S j) (q := (wss.take j).flatten.length) (la := zv_len a_w (S j)) (ws := zy_seg a_w (S j) (zv_len a_w (S j))) (f_capacity := f_capacity) (f_seed := f_seed) (f_bits := f_bits) (f_count := f_count) (f_tn := f_tn) (f_proofLen := f_proofLen) (f_proofNodes := nI wss.length) (f_claim := f_claim) (f_ck := f_ck) (f_wn := f_wn) (f_nodes := nI (N + 1)) (f_claimed := f_claimed) (a_keys := a_keys) (a_vals := a_vals) (a_dig := a_dig) (a_t := a_t) (a_proof := a_proof) (a_proofStart := a_proofStart) (a_start := a_start) (by omega) (by rw [zy_seg_len]; omega) q1 (by
      intro y hy
      rcases hy with ⟨rfl, _⟩ | ⟨_, z⟩
      · exact zy_cw147 hi (by omega) (by rw [zy_seg_len]; omega) hlg.2 q1 (fun _ => ih (j + 1) (by omega)) (fun z => absurd z zb_1ne0)
      · exact absurd rfl z)
    rw [zy_seg_len] at K
    exact br_t rfl ⟨_, K _ 0 1 (by rw [Nat.zero_add]) (Or.inl ⟨rfl, rfl, fun i z => by omega⟩)⟩
end
end
section
/-! clashWord, joined; the constructors -/
theorem i_vc_clashWord {k : Nat} {u : SX} {v : SY} (I : i_Rel k u v) (hk : k + 3 ≤ 1539) (v1 : Int32) (v2 : Int32) : wpX_clashWord (fun r u' => wpY_clashWord (fun r' v' => r' = r ∧ i_Rel (k + 3) u' v') v v1 v2) u v1 v2 := by
  refine zz_el (P := fun u v => wpX_clashWord (fun r u' => wpY_clashWord (fun r' v' => r' = r ∧ i_Rel (k + 3) u' v') v v1 v2) u v1 v2) I ?_
  intro f_capacity f_seed f_bits f_freeCount f_top f_pairs f_pathLen f_status f_claimRoot f_claimKey f_fedLen f_node f_need f_running f_expected f_level f_count f_tn f_proofLen f_proofNodes f_nodes f_claimed a_tag a_second a_third a_hash a_kids a_freeIds a_path a_fed a_starts a_keys a_vals a_dig a_t a_proof a_proofStart a_start T V
  obtain ⟨p0, s0⟩ := zz_T_p T
  have T0 := T
  have V0 := V
  by_cases h23 : f_status = 2 ∨ f_status = 3
  · obtain ⟨mp, nd, fi, fc, n, kk, cp, XS, M, hcn, hcap, h16, hnc, _, _⟩ := T
    obtain ⟨c, m, hc, hck, hm, hm79, ⟨hs, _⟩ | ⟨hcl, _, N, S, E, L, lk, Q, C⟩⟩ := V
    · rw [hs] at h23; exact absurd h23 (by decide)
    · have F := zv_C_23 h23 C
      have Z := zc_N_of Q F hm79
      have hwl := zt_ws_len f_seed f_bits mp c
      have hfl := zt_ws_fl f_seed f_bits mp c
      obtain ⟨l1, l2, l3, _⟩ := lk
      have PA := (zx_PA_of (pa := fun i => nI (((zt_ids mp nd c)[i]?).getD 0)) XS hc (fun i a hi => by show nI (((zt_ids mp nd c)[i]?).getD 0) = nI a; rw [hi]; rfl)).1
      have hiff := zc_main Q F PA (fun i ws hi => zc_go_ws XS.1.1 hc hi) hwl.1
      by_cases h0 : v2 < 0
      · refine zx_clashWord_neg h0 ?_
        have h0' : ¬ 0 ≤ v2 := Int32.not_le.mpr h0
        unfold wpY_clashWord
        refine zy_clash M XS.1.1 hcn h23 hc hck hm hm79 hcl Q C s0 p0 (fun _ tn t start dig hst => br_f (by decide) ⟨rfl, zz_in (zz_T_s T0 hst p0) V0⟩) (fun _ _ tn t start dig proof ps pn hst hps => br_f (by decide) ⟨rfl, zz_in (zz_T_s T0 hst hps) V0⟩) (fun _ _ tn t start dig proof ps hst hps _ _ _ => br_t rfl (br_f h0' ⟨rfl, zz_in (zz_T_s T0 hst hps) V0⟩))
      · obtain ⟨i, hi, rfl⟩ := nI_of h0
        refine zx_clashWord XS h23 hc hck Z l1 l2 hm hi ?_ ?_ ?_
        · intro e
          unfold wpY_clashWord
          refine zy_clash M XS.1.1 hcn h23 hc hck hm hm79 hcl Q C s0 p0 (fun _ tn t start dig hst => br_f (by decide) ⟨rfl, zz_in (zz_T_s T0 hst p0) V0⟩) (fun z => absurd z e) (fun z => absurd z e)
        · intro e h pl pa
          unfold wpY_clashWord
          refine zy_clash M XS.1.1 hcn h23 hc hck hm hm79 hcl Q C s0 p0 (fun z => absurd e z) (fun _ _ tn t start dig proof ps pn hst hps => br_f (by decide) ⟨rfl, zz_in (zz_T_s T0 hst hps) V0⟩) (fun _ z => absurd (hiff.mp h) z)
        · intro e j ws j1 hg j3 j4 pl pa
          have hj := zy_T_lt' hg
          unfold wpY_clashWord
          refine zy_clash M XS.1.1 hcn h23 hc hck hm hm79 hcl Q C s0 p0 (fun z => absurd e z) (fun _ z => absurd (hiff.mpr z j j1 hj) j4) ?_
          intro _ _ tn t start dig proof ps hst hps g1 g2 P
          refine br_t rfl (br_t (nI_pos' hi) ⟨j + 1, ?_⟩)
          exact zy_cw19 (N := N) (m := m) (S := S) Z rfl rfl hwl.2 hfl g1 g2 P hi j1 hg j3 j4 ⟨rfl, zz_in (zz_T_s T0 hst hps) V0⟩ j 0 (by omega)
  · have Yno : ∀ u' : SX, (∀ tn nn t start, start 0 = 0 → i_Rel (k + 3) u' (f_capacity, f_seed, f_bits, f_count, tn, f_proofLen, f_proofNodes, f_claimRoot, f_claimKey, f_fedLen, nn, f_claimed, a_keys, a_vals, a_dig, t, a_proof, a_proofStart, a_fed, start)) → wpY_clashWord (fun r' v' => r' = 4294967296 ∧ i_Rel (k + 3) u' v') (f_capacity, f_seed, f_bits, f_count, f_tn, f_proofLen, f_proofNodes, f_claimRoot, f_claimKey, f_fedLen, f_nodes, f_claimed, a_keys, a_vals, a_dig, a_t, a_proof, a_proofStart, a_fed, a_start) v1 v2 := by
      intro u' h
      unfold wpY_clashWord
      refine zy_clash_no V s0 h23 ?_
      intro tn nn t start hst
      exact br_f (by decide) ⟨rfl, h tn nn t start hst⟩
    have rel : ∀ tn nn t start, start 0 = 0 → i_Rel (k + 3) (f_capacity, f_seed, f_bits, f_freeCount, f_top, f_pairs, f_pathLen, f_status, f_claimRoot, f_claimKey, f_fedLen, f_node, f_need, f_running, f_expected, f_level, a_tag, a_second, a_third, a_hash, a_kids, a_freeIds, a_path, a_fed, a_starts) (f_capacity, f_seed, f_bits, f_count, tn, f_proofLen, f_proofNodes, f_claimRoot, f_claimKey, f_fedLen, nn, f_claimed, a_keys, a_vals, a_dig, t, a_proof, a_proofStart, a_fed, start) := fun tn nn t start hst => zz_in (zz_T_s T hst p0) V
    by_cases h0 : v2 < 0
    · exact zx_clashWord_neg h0 (Yno _ rel)
    · exact zx_clashWord_no h0 h23 (Yno _ rel)
/-! the constructors -/
def zi_c (v lo hi : Int32) : Int32 := if lo ≤ v then (if v ≤ hi then v else hi) else lo
theorem zi_tt {v lo hi : Int32} (h : lo ≤ v) (h2 : v ≤ hi) : zi_c v lo hi = v := by unfold zi_c; rw [if_pos h, if_pos h2]
theorem zi_tf {v lo hi : Int32} (h : lo ≤ v) (h2 : ¬ v ≤ hi) : zi_c v lo hi = hi := by unfold zi_c; rw [if_pos h, if_neg h2]
theorem zi_f {v lo hi : Int32} (h : ¬ lo ≤ v) : zi_c v lo hi = lo := by unfold zi_c; rw [if_neg h]
theorem zi_cap (v : Int32) : ∃ cp, cp ≤ 16 ∧ zi_c v 2 16 = nI cp := by
  by_cases h : (2 : Int32) ≤ v
  · by_cases h2 : v ≤ 16
    · rw [zi_tt h h2]
      have h0 : ¬ v < 0 := by
        intro z
        rw [Int32.le_iff_toInt_le, show (2 : Int32).toInt = 2 from by decide] at h
        rw [Int32.lt_iff_toInt_lt, show (0 : Int32).toInt = 0 from by decide] at z
        omega
      exact nI_of2 (M := 16) (n := 16) (by decide) h0 h2
    · rw [zi_tf h h2]; exact ⟨16, by omega, rfl⟩
  · rw [zi_f h]; exact ⟨2, by omega, rfl⟩
theorem zi_br {v lo hi : Int32} {P : Int32 → Prop} (H : P (zi_c v lo hi)) : (lo ≤ v → ((v ≤ hi → P v) ∧ (¬ v ≤ hi → P hi))) ∧ (¬ lo ≤ v → P lo) := by
  refine br_c (fun h => br_c (fun h2 => ?_) (fun h2 => ?_)) (fun h => ?_)
  · rw [zi_tt h h2] at H; exact H
  · rw [zi_tf h h2] at H; exact H
  · rw [zi_f h] at H; exact H
theorem zi_oc (h g : Nat) : ¬ zt_oc (fun _ => none) h g = true := by
  intro z
  obtain ⟨k, k1, _⟩ := (zt_oc_iff (fun _ => none) h g).mp z
  cases k1
theorem zi_kc (h g : Nat) : zt_kc (fun _ => none) h g = 0 := zt_kc0 (zi_oc (h + 1) g)
section
variable {f_capacity f_seed f_bits f_freeCount f_top f_pairs f_pathLen f_status f_claimRoot f_claimKey f_fedLen f_node f_need f_running f_expected f_level : Int32} {a_tag a_second a_third a_hash a_kids a_freeIds a_path a_fed a_starts : Nat → Int32}
theorem zi_loop {post : SX → Prop} (H : ∀ free : Nat → Int32, (∀ j, j < 31 → free j = nI (31 - j)) → post (f_capacity, f_seed, f_bits, nI 31, f_top, f_pairs, f_pathLen, f_status, f_claimRoot, f_claimKey, f_fedLen, f_node, f_need, f_running, f_expected, f_level, a_tag, a_second, a_third, upd a_hash 0 (zh_H f_seed f_bits [0]), a_kids, free, a_path, a_fed, a_starts)) :
    ∀ i n fc (free : Nat → Int32), fc + i = 31 → i < n → (∀ j, j < fc → free j = nI (31 - j)) → wX_init_116 post n (nI i) f_capacity f_seed f_bits (nI fc) f_top f_pairs f_pathLen f_status f_claimRoot f_claimKey f_fedLen f_node f_need f_running f_expected f_level a_tag a_second a_third a_hash a_kids free a_path a_fed a_starts := by
  intro i
  induction i with
  | zero =>
    intro n fc free hfc hn hf
    obtain ⟨n, rfl⟩ : ∃ m, n = m + 1 := ⟨n - 1, by omega⟩
    have e : fc = 31 := by omega
    subst e
    refine br_t (by decide) ?_
    refine zx_mix ?_
    refine zx_finish (nm_e ?_)
    exact H free hf
  | succ i ih =>
    intro n fc free hfc hn hf
    obtain ⟨n, rfl⟩ : ∃ m, n = m + 1 := ⟨n - 1, by omega⟩
    refine br_f (nI_nlt (b := 1) (by omega) (by omega)) ?_
    refine zx_release (fc := fc) rfl (by omega) ?_
    refine nm_r (pk_m1 i) (ih n (fc + 1) _ (by omega) (by omega) ?_)
    intro j hj
    by_cases e : j = fc
    · subst e; rw [pk_us]; exact congrArg nI (by omega)
    · rw [pk_un e]; exact hf j (by omega)
end
theorem zi_Y {post : SY → Prop} (p0 p1 p2 : Int32) (H : post (zi_c p0 2 16, zi_c p1 0 4095, zi_c p2 1 32, 0, 0, 0, 0, 0, 0, 0, 0, 0, (fun _ => 0), (fun _ => 0), (fun _ => 0), (fun _ => 0), (fun _ => 0), (fun _ => 0), (fun _ => 0), (fun _ => 0))) : wpY_init post p0 p1 p2 := by
  refine zi_br (P := fun x => wY_init_90 post p1 p2 x 0 0 0 0 0 0 0 0 0 0 0 0 (fun _ => 0) (fun _ => 0) (fun _ => 0) (fun _ => 0) (fun _ => 0) (fun _ => 0) (fun _ => 0) (fun _ => 0)) ?_
  refine zi_br (P := fun x => wY_init_116 post p2 x (zi_c p0 2 16) 0 0 0 0 0 0 0 0 0 0 0 (fun _ => 0) (fun _ => 0) (fun _ => 0) (fun _ => 0) (fun _ => 0) (fun _ => 0) (fun _ => 0) (fun _ => 0)) ?_
  exact zi_br (P := fun x => post (zi_c p0 2 16, zi_c p1 0 4095, x, 0, 0, 0, 0, 0, 0, 0, 0, 0, (fun _ => 0), (fun _ => 0), (fun _ => 0), (fun _ => 0), (fun _ => 0), (fun _ => 0), (fun _ => 0), (fun _ => 0))) H
section
variable {f_capacity f_seed f_bits f_freeCount f_top f_pairs f_pathLen f_status f_claimRoot f_claimKey f_fedLen f_node f_need f_running f_expected f_level : Int32} {a_tag a_second a_third a_hash a_kids a_freeIds a_path a_fed a_starts : Nat → Int32}
theorem zi_clamp {post : Int32 → Prop} {v lo hi : Int32} (H : post (zi_c v lo hi)) : wpX_clamp post (f_capacity, f_seed, f_bits, f_freeCount, f_top, f_pairs, f_pathLen, f_status, f_claimRoot, f_claimKey, f_fedLen, f_node, f_need, f_running, f_expected, f_level, a_tag, a_second, a_third, a_hash, a_kids, a_freeIds, a_path, a_fed, a_starts) v lo hi := zi_br (P := post) H
end
theorem i_vc0 (k0 : Int32) (k1 : Int32) (k2 : Int32) : wpX_init (fun u => wpY_init (fun v => i_Rel 3 u v) k0 k1 k2) k0 k1 k2 := by
  obtain ⟨cp, hcp, ecp⟩ := zi_cap k0
  unfold wpX_init
  refine zi_clamp ?_
  refine zi_clamp ?_
  refine zi_clamp ?_
  refine ⟨32, ?_⟩
  refine zi_loop ?_ 31 32 0 _ rfl (by omega) (fun j z => by omega)
  intro free hf
  refine zi_Y k0 k1 k2 ?_
  have F : zt_F (fun _ => none) (fun _ _ => 0) free (fun i => 31 - i) 31 := by
    refine ⟨fun i hi => ⟨hf i hi, ?_, ?_, fun h g _ z => absurd z (zi_oc h g)⟩, fun i j hi hj e => ?_⟩
    · show 1 ≤ 31 - i; omega
    · show 31 - i < 32; omega
    · have e' : 31 - i = 31 - j := e
      omega
  have M : zy_M (fun _ => none) (fun _ => 0) (fun _ => 0) 0 (fun _ => 0) := ⟨by omega, fun j z => by omega, fun k z => (by cases z), fun i j z => by omega⟩
  have T : zt_T (fun _ => none) (fun _ _ => 0) (fun _ => 0) (fun _ => 0) (fun _ => 0) (fun _ => 0) := ⟨fun _ _ => rfl, fun g z => absurd z (zi_oc 0 g), fun h g _ z => (by have := zi_kc h g; omega), fun h g _ z => (by have := zi_kc h g; omega)⟩
  refine ⟨rfl, rfl, rfl, rfl, rfl, rfl, rfl, ⟨fun _ => none, fun _ _ => 0, fun i => 31 - i, 31, 0, fun _ => 0, cp, ⟨T, fun h g _ z => absurd z (zi_oc h g), ?_, rfl, pk_us, F, rfl, ?_, rfl, ?_⟩, M, rfl, ecp, hcp, by omega, rfl, rfl⟩, ⟨0, 0, by omega, rfl, rfl, by omega, Or.inl ⟨rfl, rfl⟩⟩⟩
  · rw [if_neg (zi_oc 4 0)]; rfl
  · rw [(zt_sz_0 4 0 (zi_oc 4 0)).1]
  · rw [(zt_sz_0 4 0 (zi_oc 4 0)).2]
end
