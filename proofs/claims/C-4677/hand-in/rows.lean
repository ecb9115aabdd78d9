section
/-! rows taken out of the kit's rows to paste -/
theorem pk_us {f : Nat → Int32} {k : Nat} {x : Int32} : upd f k x k = x := if_pos rfl
theorem pk_un {f : Nat → Int32} {k j : Nat} {x : Int32} (h : j ≠ k) : upd f k x j = f j := if_neg h
theorem pk_sub {a b : Nat} (h : b ≤ a) : nI a - nI b = nI (a - b) := by
  obtain ⟨c, rfl⟩ : ∃ c, a = c + b := ⟨a - b, by omega⟩
  rw [← nI_add, Int32.add_sub_cancel, Nat.add_sub_cancel]
theorem pk_m1 (n : Nat) : nI (n + 1) + (-1) = nI n := by
  rw [← nI_1, Int32.add_assoc, show (1 : Int32) + (-1) = 0 from rfl, Int32.add_zero]
theorem pk_mul (a b : Nat) : nI a * nI b = nI (a * b) := (Int32.ofNat_mul a b).symm
theorem pk_div {a d : Nat} (ha : a < 2 ^ 31) (h0 : 0 < d) (hd : d < 2 ^ 31) : nI a / nI d = nI (a / d) := by
  apply Int32.toInt_inj.mp
  rw [lg_idiv_nonneg (by rw [nI_toInt ha]; omega) (by rw [nI_toInt hd]; omega), nI_toInt ha, nI_toInt hd, nI_toInt (Nat.lt_of_le_of_lt (Nat.div_le_self a d) ha)]
  first | rfl | exact (Int.natCast_ediv _ _).symm
theorem pk_rem {a d : Nat} (ha : a < 2 ^ 31) (h0 : 0 < d) (hd : d < 2 ^ 31) : nI a - nI a / nI d * nI d = nI (a % d) := by
  rw [pk_div ha h0 hd, pk_mul, pk_sub (Nat.div_mul_le_self a d)]
  exact congrArg nI (by have := Nat.div_add_mod' a d; omega)
theorem pk_sub_toInt {a b : Nat} (ha : a < 2 ^ 30) (hb : b < 2 ^ 30) : (nI a - nI b).toInt = (a : Int) - b := by
  rw [Int32.toInt_sub, nI_toInt (by omega), nI_toInt (by omega)]
  exact Int.bmod_eq_of_le (by omega) (by omega)
theorem pk_sneg {a b : Nat} (hb : b < 2 ^ 30) (h : a < b) : nI a - nI b < 0 := by
  rw [Int32.lt_iff_toInt_lt, pk_sub_toInt (by omega) hb, show (0 : Int32).toInt = 0 from by decide]
  omega
theorem pk_ix (x : Int32) {n : Nat} (hn : n < 2 ^ 31) : x < 0 ∨ nI n ≤ x ∨ ∃ j : Nat, j < n ∧ x = nI j := by
  by_cases h : x < 0
  · exact Or.inl h
  · obtain ⟨j, hj, rfl⟩ := nI_of h
    by_cases h2 : j < n
    · exact Or.inr (Or.inr ⟨j, h2, rfl⟩)
    · exact Or.inr (Or.inl (nI_le (by omega) hj))
theorem pk_le {x y : Int32} {A B : Prop} (a b : Nat) (f : a ≤ b → A) (g : b < a → B) (hx : x = nI a := by rfl) (hy : y = nI b := by rfl) (ha : a < 2 ^ 31 := by omega) (hb : b < 2 ^ 31 := by omega) : (x ≤ y → A) ∧ (¬ x ≤ y → B) := by
  subst hx hy
  rw [nI_leI ha hb]
  exact ⟨f, fun z => g (by omega)⟩
theorem pk_lt {x y : Int32} {A B : Prop} (a b : Nat) (f : a < b → A) (g : b ≤ a → B) (hx : x = nI a := by rfl) (hy : y = nI b := by rfl) (ha : a < 2 ^ 31 := by omega) (hb : b < 2 ^ 31 := by omega) : (x < y → A) ∧ (¬ x < y → B) := by
  subst hx hy
  rw [nI_ltI ha hb]
  exact ⟨f, fun z => g (by omega)⟩
theorem pk_eq {x y : Int32} {A B : Prop} (a b : Nat) (f : a = b → A) (g : a ≠ b → B) (hx : x = nI a := by rfl) (hy : y = nI b := by rfl) (ha : a < 2 ^ 31 := by omega) (hb : b < 2 ^ 31 := by omega) : (x = y → A) ∧ (¬ x = y → B) := by
  subst hx hy
  rw [nI_eq ha hb]
  exact ⟨f, g⟩
theorem pk_in {x : Int32} (n N : Nat) (h : n < N) (hx : x = nI n := by rfl) (hN : N < 2 ^ 31 := by omega) : vp_in x N := by
  subst hx
  exact vp_in_nI h hN
theorem pk_cl {x : Int32} (n : Nat) (hx : x = nI n := by rfl) (h : n < 2 ^ 31 := by omega) : x.toNatClampNeg = n := by
  subst hx
  exact nI_clamp h
theorem pk_tn {n : Nat} (h : n < 2 ^ 32) : (nI n).toBitVec.toNat = n := Nat.mod_eq_of_lt h
theorem pk_and (x : Int32) {m : Int32} (k : Nat) (hm : m.toBitVec.toNat = 2 ^ k - 1) : x &&& m = nI (x.toBitVec.toNat % 2 ^ k) := by
  apply Int32.toBitVec_inj.mp
  apply BitVec.eq_of_toNat_eq
  rw [Int32.toBitVec_and, BitVec.toNat_and, hm, Nat.and_two_pow_sub_one_eq_mod]
  show _ = (BitVec.ofNat 32 _).toNat
  rw [BitVec.toNat_ofNat]
  exact (Nat.mod_eq_of_lt (Nat.lt_of_le_of_lt (Nat.mod_le _ _) x.toBitVec.isLt)).symm
theorem pk_andN {n : Nat} (h : n < 2 ^ 32) {m : Int32} (k : Nat) (hm : m.toBitVec.toNat = 2 ^ k - 1) : nI n &&& m = nI (n % 2 ^ k) := by
  rw [pk_and _ k hm, pk_tn h]
theorem pk_andE (x : Int32) {m : Int32} (k : Nat) (hm : m.toBitVec.toNat = 2 ^ k - 1) : ∃ j : Nat, j < 2 ^ k ∧ x &&& m = nI j := ⟨_, Nat.mod_lt _ (Nat.two_pow_pos k), pk_and x k hm⟩
theorem pk_andIn (x : Int32) {m : Int32} (k : Nat) (hm : m.toBitVec.toNat = 2 ^ k - 1) (hk : k ≤ 30) : vp_in (x &&& m) (2 ^ k) := by
  obtain ⟨j, hj, e⟩ := pk_andE x k hm
  rw [e]
  exact vp_in_nI hj (Nat.lt_of_le_of_lt (Nat.pow_le_pow_right (by decide) hk) (by decide))
theorem pk_shl (a s : Int32) (k : Nat) (hs : (s.toBitVec.smod 32).toNat = k) : (a <<< s).toBitVec.toNat = a.toBitVec.toNat * 2 ^ k % 2 ^ 32 := by
  show (a.toBitVec <<< (s.toBitVec.smod 32).toNat).toNat = _
  rw [hs, BitVec.toNat_shiftLeft, Nat.shiftLeft_eq]
theorem pk_shlN {n : Nat} (s : Int32) (k : Nat) (hs : (s.toBitVec.smod 32).toNat = k) (h : n * 2 ^ k < 2 ^ 32) : nI n <<< s = nI (n * 2 ^ k) := by
  apply Int32.toBitVec_inj.mp
  apply BitVec.eq_of_toNat_eq
  have hn : n < 2 ^ 32 := Nat.lt_of_le_of_lt (Nat.le_mul_of_pos_right n (Nat.two_pow_pos k)) h
  rw [pk_shl _ _ k hs, pk_tn hn, pk_tn h, Nat.mod_eq_of_lt h]
theorem pk_shr (a s : Int32) (k : Nat) (hs : (s.toBitVec.smod 32).toNat = k) : (a >>> s).toInt = a.toInt >>> k := by
  show (a.toBitVec.sshiftRight (s.toBitVec.smod 32).toNat).toInt = _
  rw [hs, BitVec.toInt_sshiftRight]
  rfl
theorem pk_shrN {n : Nat} (h : n < 2 ^ 31) (s : Int32) (k : Nat) (hs : (s.toBitVec.smod 32).toNat = k) : nI n >>> s = nI (n / 2 ^ k) := by
  apply Int32.toInt_inj.mp
  have h2 : n / 2 ^ k ≤ n := Nat.div_le_self _ _
  rw [pk_shr _ _ k hs, nI_toInt h, nI_toInt (by omega), Int.shiftRight_eq_div_pow]
  rfl
theorem pk_least (P : Nat → Prop) (h : ∃ k, P k) : ∃ k, P k ∧ ∀ j, j < k → ¬ P j := by
  obtain ⟨k, hk⟩ := h
  induction k using Nat.strongRecOn with
  | ind k ih =>
    by_cases e : ∃ j, j < k ∧ P j
    · obtain ⟨j, hj, pj⟩ := e
      exact ih j hj pj
    · exact ⟨k, hk, fun j hj pj => e ⟨j, hj, pj⟩⟩
/-! ===== Int32 by its bits: bt x i ===== -/
def bt (x : Int32) (i : Nat) : Bool := x.toBitVec.getLsbD i
theorem b_ext {x y : Int32} (h : ∀ i, i < 32 → bt x i = bt y i) : x = y := Int32.toBitVec_inj.mp (BitVec.eq_of_getLsbD_eq (fun i hi => h i hi))
theorem b_or (x y : Int32) (i : Nat) : bt (x ||| y) i = (bt x i || bt y i) := by unfold bt; rw [Int32.toBitVec_or, BitVec.getLsbD_or]
theorem b_and (x y : Int32) (i : Nat) : bt (x &&& y) i = (bt x i && bt y i) := by unfold bt; rw [Int32.toBitVec_and, BitVec.getLsbD_and]
theorem b_xor (x y : Int32) (i : Nat) : bt (x ^^^ y) i = (bt x i ^^ bt y i) := by unfold bt; rw [Int32.toBitVec_xor, BitVec.getLsbD_xor]
theorem b_big {x : Int32} {i : Nat} (h : 32 ≤ i) : bt x i = false := BitVec.getLsbD_of_ge _ _ h
theorem b_255 (i : Nat) : bt 255 i = decide (i < 8) := by
  rcases Nat.lt_or_ge i 32 with h | h
  · exact (by decide +kernel : ∀ i, i < 32 → bt 255 i = decide (i < 8)) i h
  · rw [b_big h, decide_eq_false (by omega)]
theorem b_65535 (i : Nat) : bt 65535 i = decide (i < 16) := by
  rcases Nat.lt_or_ge i 32 with h | h
  · exact (by decide +kernel : ∀ i, i < 32 → bt 65535 i = decide (i < 16)) i h
  · rw [b_big h, decide_eq_false (by omega)]
theorem b_m1 : ∀ i, i < 32 → bt (-1) i = true := by decide +kernel
theorem b_0 (i : Nat) : bt 0 i = false := BitVec.getLsbD_zero
theorem s_l : ∀ n, n < 32 → ((nI n &&& 31).toBitVec.smod 32).toNat = n := by decide +kernel
theorem s_u : ∀ n, n < 32 → (((nI n).toUInt32 &&& Int32.toUInt32 31).toBitVec % 32).toNat = n := by decide +kernel
theorem b_shl (n : Nat) (hn : n < 32) (x : Int32) {i : Nat} (hi : i < 32) : bt (x <<< (nI n &&& 31)) i = (decide (n ≤ i) && bt x (i - n)) := by
  unfold bt
  rw [Int32.toBitVec_shiftLeft]
  show (x.toBitVec <<< ((nI n &&& 31).toBitVec.smod 32).toNat).getLsbD i = _
  rw [s_l n hn, BitVec.getLsbD_shiftLeft]
  rcases Nat.lt_or_ge i n with h | h
  · simp [h, Nat.not_le.mpr h]
  · simp [hi, h, Nat.not_lt.mpr h]
theorem b_ushr (n : Nat) (hn : n < 32) (x : Int32) (i : Nat) : bt ((x.toUInt32 >>> ((nI n).toUInt32 &&& Int32.toUInt32 31)).toInt32) i = bt x (n + i) := by
  show (x.toUInt32 >>> ((nI n).toUInt32 &&& Int32.toUInt32 31)).toBitVec.getLsbD i = x.toUInt32.toBitVec.getLsbD (n + i)
  rw [UInt32.toBitVec_shiftRight]
  show (x.toUInt32.toBitVec >>> (((nI n).toUInt32 &&& Int32.toUInt32 31).toBitVec % 32).toNat).getLsbD i = _
  rw [s_u n hn, BitVec.getLsbD_ushiftRight]
theorem b_sshr (n : Nat) (hn : n < 32) (x : Int32) {i : Nat} (hi : i < 32) : bt (x >>> (nI n &&& 31)) i = if n + i < 32 then bt x (n + i) else bt x 31 := by
  unfold bt
  rw [Int32.toBitVec_shiftRight]
  show (x.toBitVec.sshiftRight ((nI n &&& 31).toBitVec.smod 32).toNat).getLsbD i = _
  rw [s_l n hn, BitVec.getLsbD_sshiftRight, BitVec.msb_eq_getLsbD_last]
  simp [hi]
theorem b_shl8 (x : Int32) {i : Nat} (hi : i < 32) : bt (x <<< ((8 : Int32) &&& 31)) i = (decide (8 ≤ i) && bt x (i - 8)) := b_shl 8 (by omega) x hi
theorem b_shl16 (x : Int32) {i : Nat} (hi : i < 32) : bt (x <<< ((16 : Int32) &&& 31)) i = (decide (16 ≤ i) && bt x (i - 16)) := b_shl 16 (by omega) x hi
theorem b_shl24 (x : Int32) {i : Nat} (hi : i < 32) : bt (x <<< ((24 : Int32) &&& 31)) i = (decide (24 ≤ i) && bt x (i - 24)) := b_shl 24 (by omega) x hi
theorem b_sshr8 (x : Int32) {i : Nat} (hi : i < 32) : bt (x >>> ((8 : Int32) &&& 31)) i = if 8 + i < 32 then bt x (8 + i) else bt x 31 := b_sshr 8 (by omega) x hi
/-! ===== nI under and, xor, >>>, one bit, 65535 ===== -/
theorem nx_and (a b : Nat) : nI a &&& nI b = nI (a &&& b) := by
  apply Int32.toBitVec_inj.1
  show BitVec.ofNat 32 a &&& BitVec.ofNat 32 b = BitVec.ofNat 32 (a &&& b)
  apply BitVec.eq_of_getLsbD_eq
  intro i hi
  simp [hi]
theorem nx_xor (a b : Nat) : nI a ^^^ nI b = nI (a ^^^ b) := by
  apply Int32.toBitVec_inj.1
  show BitVec.ofNat 32 a ^^^ BitVec.ofNat 32 b = BitVec.ofNat 32 (a ^^^ b)
  apply BitVec.eq_of_getLsbD_eq
  intro i hi
  simp [hi]
end
section
/-! ===== sums over the arcs that leave a vertex, root functions, and their composition ===== -/
/-- the sum of h over the heads of the arcs that leave v (edge e: A e to B e and back) -/
def ka_S (A B : Nat → Nat) : Nat → Nat → (Nat → Int) → Int
  | 0, _, _ => 0
  | n + 1, v, h => ka_S A B n v h + ((if A n = v then h (B n) else 0) + (if B n = v then h (A n) else 0))
theorem ka_S_add {A B : Nat → Nat} (n v : Nat) (h k : Nat → Int) : ka_S A B n v (fun w => h w + k w) = ka_S A B n v h + ka_S A B n v k := by
  induction n with
  | zero => rfl
  | succ n ih => simp only [ka_S, ih]; split <;> split <;> omega
theorem ka_S_sub {A B : Nat → Nat} (n v : Nat) (h k : Nat → Int) : ka_S A B n v (fun w => h w - k w) = ka_S A B n v h - ka_S A B n v k := by
  induction n with
  | zero => rfl
  | succ n ih => simp only [ka_S, ih]; split <;> split <;> omega
theorem ka_S_zero {A B : Nat → Nat} (n v : Nat) : ka_S A B n v (fun _ => 0) = 0 := by
  induction n with
  | zero => rfl
  | succ n ih => simp only [ka_S, ih]; split <;> split <;> rfl
theorem ka_S_mul {A B : Nat → Nat} (n v : Nat) (c : Int) (h : Nat → Int) : ka_S A B n v (fun w => c * h w) = c * ka_S A B n v h := by
  induction n with
  | zero => simp [ka_S]
  | succ n ih =>
    simp only [ka_S, ih, Int.mul_add]
    split <;> split <;> simp
theorem ka_S_mulr {A B : Nat → Nat} (n v : Nat) (c : Int) (h : Nat → Int) : ka_S A B n v (fun w => h w * c) = ka_S A B n v h * c := by
  have e : (fun w => h w * c) = (fun w => c * h w) := by funext w; exact Int.mul_comm _ _
  rw [e, ka_S_mul, Int.mul_comm]
theorem ka_S_const {A B : Nat → Nat} (n v : Nat) (c : Int) : ka_S A B n v (fun _ => c) = ka_S A B n v (fun _ => 1) * c := by
  rw [← ka_S_mulr]
  simp
theorem ka_S_le {A B : Nat → Nat} (n v : Nat) {h k : Nat → Int} (H : ∀ w, h w ≤ k w) : ka_S A B n v h ≤ ka_S A B n v k := by
  induction n with
  | zero => exact Int.le_refl _
  | succ n ih =>
    have h1 := H (A n)
    have h2 := H (B n)
    simp only [ka_S]
    split <;> split <;> omega
theorem ka_S_congr {A B : Nat → Nat} (n v : Nat) {h k : Nat → Int} (H : ∀ w, h w = k w) : ka_S A B n v h = ka_S A B n v k := by
  have e : h = k := funext H
  rw [e]
theorem ka_S_comm {A B : Nat → Nat} (n v : Nat) (h : Nat → Int) : ka_S A B n v h = ka_S B A n v h := by
  induction n with
  | zero => rfl
  | succ n ih => simp only [ka_S, ih]; omega
theorem ka_S_if {A B : Nat → Nat} (n v : Nat) (c : Prop) [Decidable c] (h : Nat → Int) : (if c then 0 else ka_S A B n v h) = ka_S A B n v (fun w => if c then 0 else h w) := by
  by_cases z : c
  · simp only [if_pos z]; exact (ka_S_zero n v).symm
  · simp only [if_neg z]
theorem ka_S_if2 {A B : Nat → Nat} (n v : Nat) (c : Prop) [Decidable c] (h : Nat → Int) : (if c then ka_S A B n v h else 0) = ka_S A B n v (fun w => if c then h w else 0) := by
  by_cases z : c
  · simp only [if_pos z]
  · simp only [if_neg z]; exact (ka_S_zero n v).symm
theorem ka_S_swap {A B A' B' : Nat → Nat} (n m p q : Nat) (K : Nat → Nat → Int) : ka_S A B n p (fun w => ka_S A' B' m q (fun w' => K w w')) = ka_S A' B' m q (fun w' => ka_S A B n p (fun w => K w w')) := by
  induction n with
  | zero => simp only [ka_S]; exact (ka_S_zero m q).symm
  | succ n ih =>
    simp only [ka_S]
    rw [ka_S_add, ka_S_add, ih, ka_S_if2, ka_S_if2]
/-- a sum of terms that are not negative is 0: each is -/
theorem ka_S_pos0 {A B : Nat → Nat} (v : Nat) {h : Nat → Int} (H : ∀ w, 0 ≤ h w) : ∀ n, 0 ≤ ka_S A B n v h := by
  intro n
  have := ka_S_le (A := A) (B := B) n v (h := fun _ => 0) (k := h) H
  rw [ka_S_zero] at this
  exact this
theorem ka_S_all0 {A B : Nat → Nat} (v : Nat) {h : Nat → Int} (H : ∀ w, 0 ≤ h w) : ∀ n, ka_S A B n v h = 0 → ∀ e, e < n → (A e = v → h (B e) = 0) ∧ (B e = v → h (A e) = 0) := by
  intro n
  induction n with
  | zero => intro _ e he; exact absurd he (Nat.not_lt_zero e)
  | succ n ih =>
    intro h0 e he
    have p := ka_S_pos0 (A := A) (B := B) v H n
    have h1 := H (A n)
    have h2 := H (B n)
    simp only [ka_S] at h0
    rcases Nat.lt_or_ge e n with hl | hl
    · refine ih ?_ e hl
      split at h0 <;> split at h0 <;> omega
    · have en : e = n := by omega
      subst en
      constructor
      · intro hA; rw [if_pos hA] at h0; split at h0 <;> omega
      · intro hB; rw [if_pos hB] at h0; split at h0 <;> omega

/-- all that had the root p gets the root x -/
def ka_up (r : Nat → Nat) (p x : Nat) : Nat → Nat := fun u => if r u = p then x else r u
theorem ka_up_ne {r : Nat → Nat} {p x u : Nat} (h : r u ≠ p) : ka_up r p x u = r u := if_neg h
theorem ka_up_eq {r : Nat → Nat} {p x u : Nat} (h : r u = p) : ka_up r p x u = x := if_pos h
/-- p takes one of its arcs to a vertex of another root -/
def ka_Phi (A B : Nat → Nat) (n p : Nat) (F : (Nat → Nat) → Int) (r : Nat → Nat) : Int :=
  ka_S A B n p (fun w => if r w = p then 0 else F (ka_up r p (r w)))
def ka_Psi (A B : Nat → Nat) (n : Nat) : List Nat → ((Nat → Nat) → Int) → (Nat → Nat) → Int
  | [], F, r => F r
  | p :: P, F, r => ka_Phi A B n p (ka_Psi A B n P F) r
theorem ka_pt {p q : Nat} (hpq : p ≠ q) (r : Nat → Nat) (F : (Nat → Nat) → Int) (w w' : Nat) :
    (if r w = p then 0 else if ka_up r p (r w) w' = q then 0 else F (ka_up (ka_up r p (r w)) q (ka_up r p (r w) w')))
    = (if r w' = q then 0 else if ka_up r q (r w') w = p then 0 else F (ka_up (ka_up r q (r w')) p (ka_up r q (r w') w))) := by
  by_cases h1 : r w = p
  · rw [if_pos h1]
    by_cases h2 : r w' = q
    · rw [if_pos h2]
    · rw [if_neg h2, ka_up_ne (by rw [h1]; exact hpq), if_pos h1]
  · rw [if_neg h1]
    by_cases h2 : r w' = q
    · rw [if_pos h2, ka_up_ne (by rw [h2]; exact fun z => hpq z.symm), if_pos h2]
    · rw [if_neg h2]
      by_cases h3 : r w' = p
      · rw [ka_up_eq h3]
        by_cases h4 : r w = q
        · rw [if_pos h4, ka_up_eq h4, if_pos h3]
        · rw [if_neg h4, ka_up_ne h4, if_neg h1]
          refine congrArg F ?_
          funext u
          simp only [ka_up, h3]
          grind
      · rw [ka_up_ne h3, if_neg h2]
        by_cases h4 : r w = q
        · rw [ka_up_eq h4, if_neg h3]
          refine congrArg F ?_
          funext u
          simp only [ka_up, h4]
          grind
        · rw [ka_up_ne h4, if_neg h1]
          refine congrArg F ?_
          funext u
          simp only [ka_up]
          grind
theorem ka_Phi_comm {A B A' B' : Nat → Nat} {n m p q : Nat} (hpq : p ≠ q) (F : (Nat → Nat) → Int) (r : Nat → Nat) :
    ka_Phi A B n p (ka_Phi A' B' m q F) r = ka_Phi A' B' m q (ka_Phi A B n p F) r := by
  have e1 : ka_Phi A B n p (ka_Phi A' B' m q F) r = ka_S A B n p (fun w => ka_S A' B' m q (fun w' => if r w = p then 0 else if ka_up r p (r w) w' = q then 0 else F (ka_up (ka_up r p (r w)) q (ka_up r p (r w) w')))) := by
    refine ka_S_congr n p (fun w => ?_)
    exact ka_S_if m q (r w = p) _
  have e2 : ka_Phi A' B' m q (ka_Phi A B n p F) r = ka_S A' B' m q (fun w' => ka_S A B n p (fun w => if r w' = q then 0 else if ka_up r q (r w') w = p then 0 else F (ka_up (ka_up r q (r w')) p (ka_up r q (r w') w)))) := by
    refine ka_S_congr m q (fun w' => ?_)
    exact ka_S_if n p (r w' = q) _
  rw [e1, e2, ka_S_swap]
  refine ka_S_congr m q (fun w' => ka_S_congr n p (fun w => ?_))
  exact ka_pt hpq r F w w'
theorem ka_Psi_perm {A B : Nat → Nat} {n : Nat} {P Q : List Nat} (h : P.Perm Q) : P.Nodup → ∀ (F : (Nat → Nat) → Int) (r : Nat → Nat), ka_Psi A B n P F r = ka_Psi A B n Q F r := by
  induction h with
  | nil => intro _ F r; rfl
  | cons x h ih =>
    intro nd F r
    have e := funext (ih (List.nodup_cons.mp nd).2 F)
    show ka_Phi A B n x _ r = ka_Phi A B n x _ r
    rw [e]
  | swap x y l =>
    intro nd F r
    have hne : y ≠ x := by
      intro e
      have := (List.nodup_cons.mp nd).1
      apply this
      rw [e]
      exact List.mem_cons_self
    exact ka_Phi_comm hne _ r
  | trans h1 h2 ih1 ih2 =>
    intro nd F r
    rw [ih1 nd, ih2 (h1.nodup nd)]
theorem ka_Psi_app {A B : Nat → Nat} {n : Nat} (v : Nat) (F : (Nat → Nat) → Int) : ∀ (P : List Nat) (r : Nat → Nat), ka_Psi A B n (P ++ [v]) F r = ka_Psi A B n P (ka_Phi A B n v F) r := by
  intro P
  induction P with
  | nil => intro r; rfl
  | cons p P ih =>
    intro r
    have e := funext ih
    show ka_Phi A B n p (ka_Psi A B n (P ++ [v]) F) r = _
    rw [e]
    rfl
/-- what is at most as great at every state that keeps Z's vertices as their own roots -/
theorem ka_Psi_le {A B : Nat → Nat} {n : Nat} (Z : Nat → Prop) {F F' : (Nat → Nat) → Int} (H : ∀ r, (∀ v, Z v → r v = v) → F r ≤ F' r) : ∀ (P : List Nat), (∀ p, p ∈ P → ¬ Z p) → ∀ r : Nat → Nat, (∀ v, Z v → r v = v) → ka_Psi A B n P F r ≤ ka_Psi A B n P F' r := by
  intro P
  induction P with
  | nil => intro _ r hr; exact H r hr
  | cons p P ih =>
    intro hZ r hr
    refine ka_S_le n p (fun w => ?_)
    by_cases h : r w = p
    · rw [if_pos h, if_pos h]; exact Int.le_refl _
    · rw [if_neg h, if_neg h]
      refine ih (fun q hq => hZ q (List.mem_cons_of_mem _ hq)) _ (fun v hv => ?_)
      have hne : r v ≠ p := by
        rw [hr v hv]
        intro e
        exact hZ p List.mem_cons_self (e ▸ hv)
      rw [ka_up_ne hne, hr v hv]
theorem ka_Psi_eq {A B : Nat → Nat} {n : Nat} (Z : Nat → Prop) {F F' : (Nat → Nat) → Int} (H : ∀ r, (∀ v, Z v → r v = v) → F r = F' r) (P : List Nat) (hZ : ∀ p, p ∈ P → ¬ Z p) (r : Nat → Nat) (hr : ∀ v, Z v → r v = v) : ka_Psi A B n P F r = ka_Psi A B n P F' r :=
  Int.le_antisymm (ka_Psi_le Z (fun r hr => Int.le_of_eq (H r hr)) P hZ r hr) (ka_Psi_le Z (fun r hr => Int.le_of_eq (H r hr).symm) P hZ r hr)
theorem ka_Psi_add {A B : Nat → Nat} {n : Nat} (F G : (Nat → Nat) → Int) : ∀ (P : List Nat) (r : Nat → Nat), ka_Psi A B n P (fun r => F r + G r) r = ka_Psi A B n P F r + ka_Psi A B n P G r := by
  intro P
  induction P with
  | nil => intro r; rfl
  | cons p P ih =>
    intro r
    show ka_S A B n p _ = ka_S A B n p _ + ka_S A B n p _
    rw [← ka_S_add]
    refine ka_S_congr n p (fun w => ?_)
    by_cases h : r w = p
    · simp only [if_pos h]; rfl
    · simp only [if_neg h]; exact ih _
theorem ka_Psi_mul {A B : Nat → Nat} {n : Nat} (c : Int) (F : (Nat → Nat) → Int) : ∀ (P : List Nat) (r : Nat → Nat), ka_Psi A B n P (fun r => c * F r) r = c * ka_Psi A B n P F r := by
  intro P
  induction P with
  | nil => intro r; rfl
  | cons p P ih =>
    intro r
    show ka_S A B n p _ = c * ka_S A B n p _
    rw [← ka_S_mul]
    refine ka_S_congr n p (fun w => ?_)
    by_cases h : r w = p
    · simp only [if_pos h]; simp
    · simp only [if_neg h]; exact ih _
theorem ka_Psi_zero {A B : Nat → Nat} {n : Nat} (P : List Nat) (r : Nat → Nat) : ka_Psi A B n P (fun _ => 0) r = 0 := by
  have h := ka_Psi_mul (A := A) (B := B) (n := n) 0 (fun _ => 0) P r
  simpa using h
/-- a sum over arcs may be taken inside -/
theorem ka_S_Psi {A B A' B' : Nat → Nat} {m : Nat} (P : List Nat) (r : Nat → Nat) (v : Nat) (Fam : Nat → (Nat → Nat) → Int) : ∀ n, ka_S A B n v (fun w => ka_Psi A' B' m P (Fam w) r) = ka_Psi A' B' m P (fun r => ka_S A B n v (fun w => Fam w r)) r := by
  intro n
  induction n with
  | zero => exact (ka_Psi_zero P r).symm
  | succ n ih =>
    simp only [ka_S]
    rw [ka_Psi_add, ka_Psi_add, ih]
    congr 2
    · by_cases h : A n = v
      · simp only [if_pos h]
      · simp only [if_neg h]; exact (ka_Psi_zero P r).symm
    · by_cases h : B n = v
      · simp only [if_pos h]
      · simp only [if_neg h]; exact (ka_Psi_zero P r).symm
end
section
/-! ===== harmonic counts: the step of an elimination without fractions ===== -/
def ka_L (A B : Nat → Nat) (n : Nat) (g : Nat → Int) (i : Nat) : Int := ka_S A B n i (fun w => g i - g w)
def ka_T (A B : Nat → Nat) (n : Nat) (P : List Nat) : Int := ka_Psi A B n P (fun _ => 1) (fun u => u)
def ka_f (A B : Nat → Nat) (n : Nat) (P : List Nat) (j u : Nat) : Int := ka_Psi A B n P (fun r => if r u = j then 1 else 0) (fun u => u)
/-- the table's entry behind the elimination of P -/
def ka_t (A B : Nat → Nat) (n : Nat) (P : List Nat) (i j : Nat) : Int := ka_L A B n (ka_f A B n P j) i
/-- a colouring that keeps to all edges and is false outside of P is false -/
def ka_An (A B : Nat → Nat) (n : Nat) (P : List Nat) : Prop := ∀ c : Nat → Bool, (∀ e, e < n → c (A e) = c (B e)) → (∀ v, ¬ v ∈ P → c v = false) → ∀ v, c v = false
theorem ka_L_Psi {A B A' B' : Nat → Nat} {n m : Nat} (P : List Nat) (r : Nat → Nat) (Fam : Nat → (Nat → Nat) → Int) (i : Nat) : ka_L A B n (fun u => ka_Psi A' B' m P (Fam u) r) i = ka_Psi A' B' m P (fun r => ka_L A B n (fun u => Fam u r) i) r := by
  have e := ka_S_Psi (A := A) (B := B) (A' := A') (B' := B') (m := m) P r i (fun w r => Fam i r + (-1) * Fam w r) n
  unfold ka_L
  have e1 : (fun w => ka_Psi A' B' m P (Fam i) r - ka_Psi A' B' m P (Fam w) r) = (fun w => ka_Psi A' B' m P (fun r => Fam i r + (-1) * Fam w r) r) := by
    funext w
    rw [ka_Psi_add, ka_Psi_mul]
    omega
  have e2 : (fun r => ka_S A B n i (fun w => Fam i r - Fam w r)) = (fun r => ka_S A B n i (fun w => Fam i r + (-1) * Fam w r)) := by
    funext r
    refine ka_S_congr n i (fun w => ?_)
    omega
  rw [e1, e2]
  exact e
theorem ka_f_perm {A B : Nat → Nat} {n : Nat} {P Q : List Nat} (h : P.Perm Q) (nd : P.Nodup) (j u : Nat) : ka_f A B n P j u = ka_f A B n Q j u := ka_Psi_perm h nd _ _
theorem ka_T_perm {A B : Nat → Nat} {n : Nat} {P Q : List Nat} (h : P.Perm Q) (nd : P.Nodup) : ka_T A B n P = ka_T A B n Q := ka_Psi_perm h nd _ _
/-- outside of P the counts are T or 0 -/
theorem ka_f_out {A B : Nat → Nat} {n : Nat} {P : List Nat} {u : Nat} (hu : ¬ u ∈ P) (j : Nat) : ka_f A B n P j u = if u = j then ka_T A B n P else 0 := by
  have e : ka_f A B n P j u = ka_Psi A B n P (fun _ => if u = j then 1 else 0) (fun u => u) := by
    refine ka_Psi_eq (fun v => v = u) (fun r hr => ?_) P (fun p hp z => hu (z ▸ hp)) _ (fun v _ => rfl)
    rw [hr u rfl]
  rw [e]
  by_cases h : u = j
  · simp only [if_pos h]; rfl
  · simp only [if_neg h]; exact ka_Psi_zero P _
/-- the local step: at v, which takes its arc last, the counts are harmonic -/
theorem ka_loc {A B : Nat → Nat} {n v j : Nat} {r : Nat → Nat} (hr : r v = v) (hj : j ≠ v) : ka_L A B n (fun u => ka_Phi A B n v (fun r' => if r' u = j then 1 else 0) r) v = 0 := by
  have e : ∀ u, ka_Phi A B n v (fun r' => if r' u = j then 1 else 0) r = (if r u = v then 1 else 0) * ka_S A B n v (fun w => if r w = j then 1 else 0) + (if r u = j then 1 else 0) * (ka_S A B n v (fun _ => 1) - ka_S A B n v (fun w => if r w = v then 1 else 0)) := by
    intro u
    unfold ka_Phi
    by_cases h : r u = v
    · have hj2 : ¬ r u = j := by rw [h]; exact fun z => hj z.symm
      rw [if_pos h, if_neg hj2, Int.one_mul, Int.zero_mul, Int.add_zero]
      refine ka_S_congr n v (fun w => ?_)
      dsimp only
      rw [ka_up_eq h]
      by_cases h2 : r w = v
      · rw [if_pos h2, if_neg (by rw [h2]; exact fun z => hj z.symm)]
      · rw [if_neg h2]
    · rw [if_neg h, Int.zero_mul, Int.zero_add]
      by_cases h3 : r u = j
      · rw [if_pos h3, Int.one_mul, ← ka_S_sub]
        refine ka_S_congr n v (fun w => ?_)
        dsimp only
        rw [ka_up_ne h, if_pos h3]
        by_cases h2 : r w = v
        · rw [if_pos h2, if_pos h2]; rfl
        · rw [if_neg h2, if_neg h2]; rfl
      · rw [if_neg h3, Int.zero_mul]
        have z : ∀ w, (if r w = v then (0 : Int) else if ka_up r v (r w) u = j then 1 else 0) = 0 := by
          intro w
          rw [ka_up_ne h, if_neg h3]
          split <;> rfl
        rw [ka_S_congr n v z, ka_S_zero]
  have hj2 : ¬ r v = j := by rw [hr]; exact fun z => hj z.symm
  unfold ka_L
  rw [ka_S_sub]
  simp only [e]
  rw [ka_S_const, ka_S_add, ka_S_mulr, ka_S_mulr, if_pos hr, if_neg hj2]
  generalize ka_S A B n v (fun _ => 1) = D
  generalize ka_S A B n v (fun w => if r w = j then 1 else 0) = J
  generalize ka_S A B n v (fun w => if r w = v then 1 else 0) = V
  grind
theorem ka_f_harm {A B : Nat → Nat} {n : Nat} {P : List Nat} (nd : P.Nodup) {v j : Nat} (hv : v ∈ P) (hj : ¬ j ∈ P) : ka_t A B n P v j = 0 := by
  have pm : P.Perm (P.erase v ++ [v]) := (List.perm_cons_erase hv).trans (List.perm_append_singleton v (P.erase v)).symm
  have e : ka_f A B n P j = fun u => ka_Psi A B n (P.erase v) (ka_Phi A B n v (fun r => if r u = j then 1 else 0)) (fun u => u) := by
    funext u
    rw [ka_f_perm pm nd]
    exact ka_Psi_app v _ _ _
  unfold ka_t
  rw [e, ka_L_Psi]
  have z : ka_Psi A B n (P.erase v) (fun r => ka_L A B n (fun u => ka_Phi A B n v (fun r => if r u = j then 1 else 0) r) v) (fun u => u) = ka_Psi A B n (P.erase v) (fun _ => 0) (fun u => u) := by
    refine ka_Psi_eq (fun x => x = v) (fun r hr => ?_) _ (fun p hp z => ?_) _ (fun x _ => rfl)
    · exact ka_loc (hr v rfl) (fun z => hj (z ▸ hv))
    · have z' : p = v := z
      rw [z'] at hp
      exact (List.Nodup.not_mem_erase nd) hp
  rw [z, ka_Psi_zero]
theorem ka_T_app {A B : Nat → Nat} {n : Nat} {P : List Nat} {p : Nat} (hp : ¬ p ∈ P) : ka_T A B n (P ++ [p]) = ka_t A B n P p p := by
  unfold ka_T ka_t
  rw [ka_Psi_app]
  have e : ka_f A B n P p = fun u => ka_Psi A B n P (fun r => if r u = p then 1 else 0) (fun u => u) := rfl
  rw [e, ka_L_Psi]
  refine ka_Psi_eq (fun x => x = p) (fun r hr => ?_) _ (fun q hq z => hp ((show q = p from z) ▸ hq)) _ (fun x _ => rfl)
  unfold ka_Phi ka_L
  refine ka_S_congr n p (fun w => ?_)
  dsimp only
  rw [hr p rfl, if_pos rfl]
  split <;> rfl
/-- the entries off the diagonal are not above 0, and their size is at most the diagonal's -/
theorem ka_t_bd {A B : Nat → Nat} {n : Nat} {P : List Nat} {i j : Nat} (hi : ¬ i ∈ P) (hij : i ≠ j) : ka_t A B n P i j ≤ 0 ∧ - ka_T A B n (P ++ [i]) ≤ ka_t A B n P i j := by
  have e0 : ka_t A B n P i j = ka_Psi A B n P (fun r => ka_L A B n (fun u => if r u = j then 1 else 0) i) (fun u => u) := by
    unfold ka_t
    exact ka_L_Psi P (fun u => u) (fun u r => if r u = j then 1 else 0) i
  have e1 : ka_t A B n P i j = ka_Psi A B n P (fun r => (-1) * ka_S A B n i (fun w => if r w = j then 1 else 0)) (fun u => u) := by
    rw [e0]
    refine ka_Psi_eq (fun x => x = i) (fun r hr => ?_) _ (fun q hq z => hi ((show q = i from z) ▸ hq)) _ (fun x _ => rfl)
    unfold ka_L
    dsimp only
    rw [hr i rfl, if_neg hij, ← ka_S_mul]
    refine ka_S_congr n i (fun w => ?_)
    omega
  rw [e1, ka_Psi_mul]
  have p1 : 0 ≤ ka_Psi A B n P (fun r => ka_S A B n i (fun w => if r w = j then 1 else 0)) (fun u => u) := by
    have z := ka_Psi_le (A := A) (B := B) (n := n) (fun _ => False) (F := fun _ => 0) (F' := fun r => ka_S A B n i (fun w => if r w = j then 1 else 0)) (fun r _ => ka_S_pos0 i (fun w => by split <;> decide) n) P (fun _ _ z => z) (fun u => u) (fun _ z => z.elim)
    rw [ka_Psi_zero] at z
    exact z
  have p2 : ka_Psi A B n P (fun r => ka_S A B n i (fun w => if r w = j then 1 else 0)) (fun u => u) ≤ ka_T A B n (P ++ [i]) := by
    unfold ka_T
    rw [ka_Psi_app]
    refine ka_Psi_le (fun x => x = i) (fun r hr => ?_) P (fun q hq z => hi ((show q = i from z) ▸ hq)) _ (fun x _ => rfl)
    unfold ka_Phi
    refine ka_S_le n i (fun w => ?_)
    by_cases h : r w = i
    · rw [if_pos h, if_neg (by rw [h]; exact hij)]; exact Int.le_refl _
    · rw [if_neg h]; dsimp only; split <;> decide
  omega
theorem ka_T_nn {A B : Nat → Nat} {n : Nat} (P : List Nat) : 0 ≤ ka_T A B n P := by
  have z := ka_Psi_le (A := A) (B := B) (n := n) (fun _ => False) (F := fun _ => 0) (F' := fun _ => 1) (fun r _ => by decide) P (fun _ _ z => z) (fun u => u) (fun _ z => z.elim)
  rw [ka_Psi_zero] at z
  exact z
/-! the maximum principle -/
theorem ka_argmax (g : Nat → Int) : ∀ (P : List Nat), P ≠ [] → ∃ m, m ∈ P ∧ ∀ v, v ∈ P → g v ≤ g m := by
  intro P
  induction P with
  | nil => intro h; exact absurd rfl h
  | cons p P ih =>
    intro _
    by_cases hP : P = []
    · subst hP
      refine ⟨p, List.mem_cons_self, fun v hv => ?_⟩
      rw [List.mem_singleton.mp hv]
      exact Int.le_refl _
    · obtain ⟨m, hm, h⟩ := ih hP
      by_cases hc : g m ≤ g p
      · refine ⟨p, List.mem_cons_self, fun v hv => ?_⟩
        rcases List.mem_cons.mp hv with rfl | hv
        · exact Int.le_refl _
        · exact Int.le_trans (h v hv) hc
      · refine ⟨m, List.mem_cons_of_mem _ hm, fun v hv => ?_⟩
        rcases List.mem_cons.mp hv with rfl | hv
        · omega
        · exact h v hv
theorem ka_max {A B : Nat → Nat} {n : Nat} {P : List Nat} {g : Nat → Int} (h0 : ∀ v, ¬ v ∈ P → g v = 0) (hL : ∀ v, v ∈ P → ka_L A B n g v = 0) (hA : ka_An A B n P) : ∀ v, g v ≤ 0 := by
  intro v
  apply Int.not_lt.mp
  intro hv
  have hvP : v ∈ P := by
    apply Classical.byContradiction
    intro z
    rw [h0 v z] at hv
    exact absurd hv (by decide)
  obtain ⟨m, hm, hmax⟩ := ka_argmax g P (fun z => by rw [z] at hvP; exact absurd hvP List.not_mem_nil)
  have hM : 0 < g m := Int.lt_of_lt_of_le hv (hmax v hvP)
  have hall : ∀ w, 0 ≤ g m - g w := by
    intro w
    by_cases hw : w ∈ P
    · have := hmax w hw; omega
    · rw [h0 w hw]; omega
  have key : ∀ x, g x = g m → ∀ e, e < n → (A e = x → g (B e) = g m) ∧ (B e = x → g (A e) = g m) := by
    intro x hx e he
    have hxP : x ∈ P := by
      apply Classical.byContradiction
      intro z
      rw [h0 x z] at hx
      omega
    have hz := hL x hxP
    unfold ka_L at hz
    rw [hx] at hz
    have := ka_S_all0 x hall n hz e he
    exact ⟨fun h => by have := this.1 h; omega, fun h => by have := this.2 h; omega⟩
  have := hA (fun x => decide (g x = g m)) (fun e he => by
    by_cases h : g (A e) = g m
    · have := (key (A e) h e he).1 rfl
      simp only [h, this]
    · by_cases h2 : g (B e) = g m
      · exact absurd ((key (B e) h2 e he).2 rfl) h
      · simp only [h, h2]) (fun x hx => by
    rw [h0 x hx]
    exact decide_eq_false (by omega)) m
  simp at this
theorem ka_L_lin {A B : Nat → Nat} {n : Nat} (c d : Int) (g h : Nat → Int) (i : Nat) : ka_L A B n (fun u => c * g u + d * h u) i = c * ka_L A B n g i + d * ka_L A B n h i := by
  unfold ka_L
  rw [← ka_S_mul, ← ka_S_mul, ← ka_S_add]
  refine ka_S_congr n i (fun w => ?_)
  dsimp only
  rw [Int.mul_sub, Int.mul_sub]
  omega
theorem ka_max0 {A B : Nat → Nat} {n : Nat} {P : List Nat} {g : Nat → Int} (h0 : ∀ v, ¬ v ∈ P → g v = 0) (hL : ∀ v, v ∈ P → ka_L A B n g v = 0) (hA : ka_An A B n P) : ∀ v, g v = 0 := by
  intro v
  have h1 := ka_max h0 hL hA v
  have h2 := ka_max (g := fun u => (-1) * g u + 0 * g u) (fun v hv => by simp only [h0 v hv]; rfl) (fun v hv => by rw [ka_L_lin, hL v hv]; rfl) hA v
  have h3 : (-1) * g v + 0 * g v ≤ 0 := h2
  omega
theorem ka_An_sub {A B : Nat → Nat} {n : Nat} {P Q : List Nat} (h : ∀ v, v ∈ P → v ∈ Q) (hQ : ka_An A B n Q) : ka_An A B n P := fun c h1 h2 => hQ c h1 (fun v hv => h2 v (fun z => hv (h v z)))
/-- no pivot is 0 -/
theorem ka_T_pos {A B : Nat → Nat} {n : Nat} : ∀ (Q : List Nat), Q.reverse.Nodup → ka_An A B n Q.reverse → 0 < ka_T A B n Q.reverse := by
  intro Q
  induction Q with
  | nil => intro _ _; exact (by decide : (0 : Int) < 1)
  | cons q Q ih =>
    intro nd hA
    rw [List.reverse_cons] at nd hA ⊢
    have nd1 : Q.reverse.Nodup := (List.nodup_append.mp nd).1
    have hq : ¬ q ∈ Q.reverse := fun z => (List.nodup_append.mp nd).2.2 q z q (List.mem_singleton.mpr rfl) rfl
    have hpos := ih nd1 (ka_An_sub (fun v hv => List.mem_append_left _ hv) hA)
    have hnn := ka_T_nn (A := A) (B := B) (n := n) (Q.reverse ++ [q])
    rcases Int.lt_or_eq_of_le hnn with h | h
    · exact h
    · exfalso
      have hz : ∀ v, ka_f A B n Q.reverse q v = 0 := by
        refine ka_max0 (P := Q.reverse ++ [q]) (fun v hv => ?_) (fun v hv => ?_) hA
        · have h1 : ¬ v ∈ Q.reverse := fun z => hv (List.mem_append_left _ z)
          have h2 : ¬ v = q := fun z => hv (List.mem_append_right _ (List.mem_singleton.mpr z))
          rw [ka_f_out h1, if_neg h2]
        · rcases List.mem_append.mp hv with h1 | h1
          · exact ka_f_harm nd1 h1 hq
          · rw [List.mem_singleton.mp h1]
            rw [ka_T_app hq] at h
            exact h.symm
      have := hz q
      rw [ka_f_out hq, if_pos rfl] at this
      omega
/-- the step of the elimination -/
theorem ka_step {A B : Nat → Nat} {n : Nat} {P : List Nat} {p : Nat} (nd : (P ++ [p]).Nodup) (hA : ka_An A B n (P ++ [p])) {i j : Nat} (hj : ¬ j ∈ P ++ [p]) :
    ka_T A B n P * ka_t A B n (P ++ [p]) i j = ka_T A B n (P ++ [p]) * ka_t A B n P i j - ka_t A B n P i p * ka_t A B n P p j := by
  have nd1 : P.Nodup := (List.nodup_append.mp nd).1
  have hp : ¬ p ∈ P := fun z => (List.nodup_append.mp nd).2.2 p z p (List.mem_singleton.mpr rfl) rfl
  have hjP : ¬ j ∈ P := fun z => hj (List.mem_append_left _ z)
  have hpp : p ∈ P ++ [p] := List.mem_append_right _ (List.mem_singleton.mpr rfl)
  have hjp : j ≠ p := fun z => hj (z ▸ hpp)
  have hz : ∀ v, ka_T A B n P * ka_f A B n (P ++ [p]) j v + (-1) * (ka_T A B n (P ++ [p]) * ka_f A B n P j v + (- ka_t A B n P p j) * ka_f A B n P p v) = 0 := by
    refine ka_max0 (P := P ++ [p]) (A := A) (B := B) (n := n) (fun v hv => ?_) (fun v hv => ?_) hA
    · have h1 : ¬ v ∈ P := fun z => hv (List.mem_append_left _ z)
      have h2 : ¬ v = p := fun z => hv (z ▸ hpp)
      rw [ka_f_out h1, ka_f_out hv, ka_f_out h1, if_neg h2]
      by_cases h3 : v = j
      · rw [if_pos h3, if_pos h3, Int.mul_comm]; omega
      · rw [if_neg h3, if_neg h3]; simp
    · rw [ka_L_lin, ka_L_lin]
      have e1 : ka_L A B n (fun u => ka_f A B n (P ++ [p]) j u) v = 0 := ka_f_harm nd hv hj
      rw [e1]
      rcases List.mem_append.mp hv with h1 | h1
      · have e2 : ka_L A B n (fun u => ka_f A B n P j u) v = 0 := ka_f_harm nd1 h1 hjP
        have e3 : ka_L A B n (fun u => ka_f A B n P p u) v = 0 := ka_f_harm nd1 h1 hp
        rw [e2, e3]; simp
      · rw [List.mem_singleton.mp h1, ka_T_app hp]
        show ka_T A B n P * 0 + (-1) * (ka_t A B n P p p * ka_t A B n P p j + (- ka_t A B n P p j) * ka_t A B n P p p) = 0
        rw [Int.neg_mul (ka_t A B n P p j), Int.mul_comm (ka_t A B n P p j)]
        omega
  have hL : ka_L A B n (fun v => ka_T A B n P * ka_f A B n (P ++ [p]) j v + (-1) * (ka_T A B n (P ++ [p]) * ka_f A B n P j v + (- ka_t A B n P p j) * ka_f A B n P p v)) i = 0 := by
    rw [show (fun v => ka_T A B n P * ka_f A B n (P ++ [p]) j v + (-1) * (ka_T A B n (P ++ [p]) * ka_f A B n P j v + (- ka_t A B n P p j) * ka_f A B n P p v)) = (fun _ => 0) from funext hz]
    exact ka_S_zero n i
  rw [ka_L_lin, ka_L_lin] at hL
  have hL' : ka_T A B n P * ka_t A B n (P ++ [p]) i j + (-1) * (ka_T A B n (P ++ [p]) * ka_t A B n P i j + (- ka_t A B n P p j) * ka_t A B n P i p) = 0 := hL
  rw [Int.neg_mul (ka_t A B n P p j), Int.mul_comm (ka_t A B n P p j)] at hL'
  omega
end
section
/-! ===== the count T is a number of sets of edges: deletion and contraction ===== -/
def kc_s (b a : Nat) : Nat → Nat := fun x => if x = b then a else x
theorem kc_s_b {b a : Nat} : kc_s b a b = a := if_pos rfl
theorem kc_s_n {b a x : Nat} (h : x ≠ b) : kc_s b a x = x := if_neg h
theorem kc_s_a {b a : Nat} : kc_s b a a = a := by
  by_cases h : a = b
  · subst h; exact if_pos rfl
  · exact if_neg h
theorem kc_S_s {A B : Nat → Nat} {a b p : Nat} (ha : p ≠ a) (hb : p ≠ b) (h : Nat → Int) : ∀ n, ka_S (fun e => kc_s b a (A e)) (fun e => kc_s b a (B e)) n p h = ka_S A B n p (fun w => h (kc_s b a w)) := by
  have k : ∀ x, kc_s b a x = p ↔ x = p := by
    intro x
    by_cases z : x = b
    · subst z
      rw [kc_s_b]
      exact ⟨fun y => absurd y.symm ha, fun y => absurd y.symm hb⟩
    · rw [kc_s_n z]
  intro n
  induction n with
  | zero => rfl
  | succ n ih => simp only [ka_S, ih, k]
theorem kc_S_s2 {A B : Nat → Nat} {a b : Nat} (hab : a ≠ b) (h : Nat → Int) : ∀ n, ka_S (fun e => kc_s b a (A e)) (fun e => kc_s b a (B e)) n a h = ka_S A B n b (fun w => h (kc_s b a w)) + ka_S A B n a (fun w => h (kc_s b a w)) := by
  have k : ∀ x, (if kc_s b a x = a then (1 : Int) else 0) = (if x = b then 1 else 0) + (if x = a then 1 else 0) := by
    intro x
    by_cases z : x = b
    · subst z
      rw [kc_s_b, if_pos rfl, if_pos rfl, if_neg (fun y => hab y.symm)]; rfl
    · rw [kc_s_n z, if_neg z]; omega
  have k2 : ∀ (x : Nat) (y : Int), (if kc_s b a x = a then y else 0) = (if x = b then y else 0) + (if x = a then y else 0) := by
    intro x y
    by_cases z : x = b
    · subst z
      rw [kc_s_b, if_pos rfl, if_pos rfl, if_neg (fun y => hab y.symm)]; omega
    · rw [kc_s_n z, if_neg z]; omega
  intro n
  induction n with
  | zero => rfl
  | succ n ih =>
    simp only [ka_S, ih, k2]
    omega
theorem kc_Psi_s {A B : Nat → Nat} {n a b : Nat} : ∀ (P : List Nat), ¬ a ∈ P → ¬ b ∈ P → ∀ r : Nat → Nat, ka_Psi (fun e => kc_s b a (A e)) (fun e => kc_s b a (B e)) n P (fun _ => 1) r = ka_Psi A B n P (fun _ => 1) (fun x => r (kc_s b a x)) := by
  intro P
  induction P with
  | nil => intro _ _ r; rfl
  | cons p P ih =>
    intro ha hb r
    have ha' : ¬ a ∈ P := fun z => ha (List.mem_cons_of_mem _ z)
    have hb' : ¬ b ∈ P := fun z => hb (List.mem_cons_of_mem _ z)
    have hpa : p ≠ a := fun z => ha (z ▸ List.mem_cons_self)
    have hpb : p ≠ b := fun z => hb (z ▸ List.mem_cons_self)
    show ka_S _ _ n p _ = ka_S _ _ n p _
    rw [kc_S_s hpa hpb]
    refine ka_S_congr n p (fun w => ?_)
    by_cases h : r (kc_s b a w) = p
    · rw [if_pos h, if_pos h]
    · rw [if_neg h, if_neg h, ih ha' hb']
      rfl
/-- an edge without an end in P doesn't count -/
theorem kc_Psi_out {A B : Nat → Nat} {n : Nat} (F : (Nat → Nat) → Int) : ∀ (P : List Nat), ¬ A n ∈ P → ¬ B n ∈ P → ka_Psi A B (n + 1) P F = ka_Psi A B n P F := by
  intro P
  induction P with
  | nil => intro _ _; rfl
  | cons p P ih =>
    intro ha hb
    have e := ih (fun z => ha (List.mem_cons_of_mem _ z)) (fun z => hb (List.mem_cons_of_mem _ z))
    funext r
    show ka_Phi A B (n + 1) p _ r = ka_Phi A B n p _ r
    rw [e]
    unfold ka_Phi
    simp only [ka_S]
    have h1 : ¬ A n = p := fun z => ha (by rw [z]; exact List.mem_cons_self)
    have h2 : ¬ B n = p := fun z => hb (by rw [z]; exact List.mem_cons_self)
    rw [if_neg h1, if_neg h2]
    omega
/-- a loop doesn't count -/
theorem kc_Psi_loop {A B : Nat → Nat} {n : Nat} (F : (Nat → Nat) → Int) (hl : A n = B n) : ∀ (P : List Nat), P.Nodup → ∀ r : Nat → Nat, (∀ p, p ∈ P → r p = p) → ka_Psi A B (n + 1) P F r = ka_Psi A B n P F r := by
  intro P
  induction P with
  | nil => intro _ r _; rfl
  | cons p P ih =>
    intro nd r hr
    have nd' := List.nodup_cons.mp nd
    have hp : r p = p := hr p List.mem_cons_self
    have hrec : ∀ w, r w ≠ p → ka_Psi A B (n + 1) P F (ka_up r p (r w)) = ka_Psi A B n P F (ka_up r p (r w)) := by
      intro w _
      refine ih nd'.2 _ (fun q hq => ?_)
      have hq' : r q = q := hr q (List.mem_cons_of_mem _ hq)
      rw [ka_up_ne (by rw [hq']; exact fun z => nd'.1 (z ▸ hq)), hq']
    have e : ∀ w, (if r w = p then 0 else ka_Psi A B (n + 1) P F (ka_up r p (r w))) = (if r w = p then 0 else ka_Psi A B n P F (ka_up r p (r w))) := by
      intro w
      by_cases h : r w = p
      · rw [if_pos h, if_pos h]
      · rw [if_neg h, if_neg h, hrec w h]
    show ka_S A B (n + 1) p _ = ka_S A B n p _
    rw [ka_S_congr (n + 1) p e]
    simp only [ka_S]
    rw [← hl]
    by_cases h : A n = p
    · rw [if_pos h, if_pos (show r (A n) = p by rw [h]; exact hp)]; omega
    · rw [if_neg h]; omega
theorem kc_dc {A B : Nat → Nat} {n : Nat} {P : List Nat} (hab : A n ≠ B n) (nd : P.Nodup) (hb : ¬ B n ∈ P) :
    ka_T A B (n + 1) (B n :: P) = ka_T A B n (B n :: P) + ka_T (fun e => kc_s (B n) (A n) (A e)) (fun e => kc_s (B n) (A n) (B e)) n P := by
  generalize ha : A n = a at hab
  generalize hbb : B n = b at hab hb
  have top : ∀ F : (Nat → Nat) → Int, ka_Phi A B (n + 1) b F (fun u => u) = ka_Phi A B n b F (fun u => u) + F (kc_s b a) := by
    intro F
    unfold ka_Phi
    simp only [ka_S, ha, hbb]
    rw [if_neg hab, if_pos trivial, if_neg hab]
    show _ + (0 + F (ka_up (fun u => u) b a)) = _
    rw [Int.zero_add]
    rfl
  by_cases haP : a ∈ P
  · -- a too takes an arc
    have pm : P.Perm (a :: P.erase a) := List.perm_cons_erase haP
    have nd2 : (a :: P.erase a).Nodup := pm.nodup nd
    have haE : ¬ a ∈ P.erase a := (List.nodup_cons.mp nd2).1
    have hbE : ¬ b ∈ P.erase a := fun z => hb (List.mem_of_mem_erase z)
    have ndb : (b :: P).Nodup := List.nodup_cons.mpr ⟨hb, nd⟩
    rw [ka_T_perm (List.Perm.cons b pm) ndb, ka_T_perm (List.Perm.cons b pm) ndb, ka_T_perm pm nd]
    generalize P.erase a = Q at haE hbE
    have eQ : ka_Psi A B (n + 1) Q (fun _ => 1) = ka_Psi A B n Q (fun _ => 1) := kc_Psi_out _ Q (by rw [ha]; exact haE) (by rw [hbb]; exact hbE)
    have eA : ∀ r : Nat → Nat, ka_Psi A B (n + 1) (a :: Q) (fun _ => 1) r = ka_Phi A B n a (ka_Psi A B n Q (fun _ => 1)) r + (if r b = a then 0 else ka_Psi A B n Q (fun _ => 1) (ka_up r a (r b))) := by
      intro r
      show ka_Phi A B (n + 1) a (ka_Psi A B (n + 1) Q (fun _ => 1)) r = _
      rw [eQ]
      unfold ka_Phi
      simp only [ka_S, ha, hbb]
      have hba : ¬ b = a := fun z => hab z.symm
      rw [if_pos trivial, if_neg hba]
      omega
    unfold ka_T
    show ka_Phi A B (n + 1) b (ka_Psi A B (n + 1) (a :: Q) (fun _ => 1)) (fun u => u) = ka_Phi A B n b (ka_Phi A B n a (ka_Psi A B n Q (fun _ => 1))) (fun u => u) + ka_Phi (fun e => kc_s b a (A e)) (fun e => kc_s b a (B e)) n a (ka_Psi (fun e => kc_s b a (A e)) (fun e => kc_s b a (B e)) n Q (fun _ => 1)) (fun u => u)
    rw [top, eA (kc_s b a), if_pos kc_s_b, Int.add_zero]
    have e1 : ka_Phi A B n b (ka_Psi A B (n + 1) (a :: Q) (fun _ => 1)) (fun u => u) = ka_Phi A B n b (ka_Phi A B n a (ka_Psi A B n Q (fun _ => 1))) (fun u => u) + ka_Phi A B n b (fun r => if r b = a then 0 else ka_Psi A B n Q (fun _ => 1) (ka_up r a (r b))) (fun u => u) := by
      rw [show ka_Psi A B (n + 1) (a :: Q) (fun _ => 1) = (fun r => ka_Phi A B n a (ka_Psi A B n Q (fun _ => 1)) r + (if r b = a then 0 else ka_Psi A B n Q (fun _ => 1) (ka_up r a (r b)))) from funext eA]
      exact ka_Psi_add (A := A) (B := B) (n := n) _ _ [b] (fun u => u)
    rw [e1, Int.add_assoc]
    congr 1
    unfold ka_Phi
    rw [kc_S_s2 hab]
    congr 1
    · refine ka_S_congr n b (fun w => ?_)
      by_cases hw : w = b
      · rw [if_pos hw, hw, kc_s_b, if_pos rfl]
      · rw [if_neg hw, kc_s_n hw]
        have hx : ka_up (fun u => u) b w b = w := if_pos rfl
        (try dsimp only)
        rw [hx]
        by_cases hwa : w = a
        · rw [if_pos hwa, if_pos hwa]
        · rw [if_neg hwa, if_neg hwa, kc_Psi_s Q haE hbE]
          refine congrArg _ ?_
          funext u
          simp only [ka_up, kc_s]
          grind
    · refine ka_S_congr n a (fun w => ?_)
      by_cases hw : kc_s b a w = a
      · rw [if_pos hw, if_pos hw]
      · rw [if_neg hw, if_neg hw, kc_Psi_s Q haE hbE]
        rfl
  · unfold ka_T
    show ka_Phi A B (n + 1) b (ka_Psi A B (n + 1) P (fun _ => 1)) (fun u => u) = ka_Phi A B n b (ka_Psi A B n P (fun _ => 1)) (fun u => u) + _
    rw [top, kc_Psi_out _ P (by rw [ha]; exact haP) (by rw [hbb]; exact hb), kc_Psi_s P haP hb]
/-! ===== sets of edges ===== -/
def kc_size : Nat → (Nat → Bool) → Nat
  | 0, _ => 0
  | n + 1, S => kc_size n S + (if S n = true then 1 else 0)
/-- a colouring that keeps to the edges of S and is false outside of P is false -/
def kc_An (A B : Nat → Nat) (n : Nat) (S : Nat → Bool) (P : List Nat) : Prop := ∀ c : Nat → Bool, (∀ e, e < n → S e = true → c (A e) = c (B e)) → (∀ v, ¬ v ∈ P → c v = false) → ∀ v, c v = false
def kc_Good (A B : Nat → Nat) (n : Nat) (S : Nat → Bool) (P : List Nat) : Prop := kc_size n S = P.length ∧ kc_An A B n S P
def kc_ins (n : Nat) (S : Nat → Bool) : Nat → Bool := fun e => if e = n then true else S e
theorem kc_ins_s {n : Nat} {S : Nat → Bool} : kc_ins n S n = true := if_pos rfl
theorem kc_ins_n {n e : Nat} {S : Nat → Bool} (h : e ≠ n) : kc_ins n S e = S e := if_neg h
def kc_SS : Nat → ((Nat → Bool) → Int) → Int
  | 0, h => h (fun _ => false)
  | n + 1, h => kc_SS n h + kc_SS n (fun S => h (kc_ins n S))
theorem kc_size_congr {S S' : Nat → Bool} : ∀ n, (∀ e, e < n → S e = S' e) → kc_size n S = kc_size n S' := by
  intro n
  induction n with
  | zero => intro _; rfl
  | succ n ih =>
    intro h
    simp only [kc_size]
    rw [ih (fun e he => h e (by omega)), h n (by omega)]
theorem kc_size_ins (n : Nat) (S : Nat → Bool) : kc_size (n + 1) (kc_ins n S) = kc_size n S + 1 := by
  simp only [kc_size]
  rw [if_pos kc_ins_s, kc_size_congr n (fun e he => kc_ins_n (by omega))]
theorem kc_An_congr {A B : Nat → Nat} {n : Nat} {S S' : Nat → Bool} {P : List Nat} (h : ∀ e, e < n → S e = S' e) (H : kc_An A B n S P) : kc_An A B n S' P := fun c h1 h2 => H c (fun e he hs => h1 e he (by rw [← h e he]; exact hs)) h2
theorem kc_SS_congr : ∀ (n : Nat) {h h' : (Nat → Bool) → Int}, (∀ S, (∀ e, n ≤ e → S e = false) → h S = h' S) → kc_SS n h = kc_SS n h' := by
  intro n
  induction n with
  | zero => intro h h' H; exact H _ (fun _ _ => rfl)
  | succ n ih =>
    intro h h' H
    simp only [kc_SS]
    rw [ih (fun S hS => H S (fun e he => hS e (by omega))), ih (h := fun S => h (kc_ins n S)) (h' := fun S => h' (kc_ins n S)) (fun S hS => H _ (fun e he => by rw [kc_ins_n (by omega)]; exact hS e (by omega)))]
theorem kc_SS_zero : ∀ n, kc_SS n (fun _ => 0) = 0 := by
  intro n
  induction n with
  | zero => rfl
  | succ n ih => simp only [kc_SS, ih]; rfl
/-- contraction: b, which is in P, goes into a -/
theorem kc_An_s {A B : Nat → Nat} {n : Nat} {S : Nat → Bool} {P : List Nat} {a b : Nat} (nd : P.Nodup) (hb : b ∈ P) (hab : a ≠ b) :
    (∀ c : Nat → Bool, (∀ e, e < n → S e = true → c (A e) = c (B e)) → c a = c b → (∀ v, ¬ v ∈ P → c v = false) → ∀ v, c v = false) ↔ kc_An (fun e => kc_s b a (A e)) (fun e => kc_s b a (B e)) n S (P.erase b) := by
  constructor
  · intro H c h1 h2 v
    have hz := H (fun x => c (kc_s b a x)) h1 (by (try dsimp only); rw [kc_s_a, kc_s_b]) (fun x hx => by
      have hxb : x ≠ b := fun z => hx (z ▸ hb)
      (try dsimp only)
      rw [kc_s_n hxb]
      exact h2 x (fun z => hx (List.mem_of_mem_erase z)))
    by_cases hv : v = b
    · rw [hv]; exact h2 b (List.Nodup.not_mem_erase nd)
    · have := hz v
      (try dsimp only at this)
      rw [kc_s_n hv] at this
      exact this
  · intro H c h1 hc h2 v
    have key : ∀ x, (if kc_s b a x = b then false else c (kc_s b a x)) = c x := by
      intro x
      by_cases hx : x = b
      · rw [hx, kc_s_b, if_neg hab, hc]
      · rw [kc_s_n hx, if_neg hx]
    have hz := H (fun x => if x = b then false else c x) (fun e he hs => by
      (try dsimp only)
      rw [key, key]
      exact h1 e he hs) (fun x hx => by
      (try dsimp only)
      by_cases hxb : x = b
      · rw [if_pos hxb]
      · rw [if_neg hxb]
        exact h2 x (fun z => hx ((List.mem_erase_of_ne hxb).mpr z)))
    rw [← key v]
    exact hz (kc_s b a v)
theorem kc_An_ins {A B : Nat → Nat} {n : Nat} {S : Nat → Bool} {P : List Nat} : kc_An A B (n + 1) (kc_ins n S) P ↔ (∀ c : Nat → Bool, (∀ e, e < n → S e = true → c (A e) = c (B e)) → c (A n) = c (B n) → (∀ v, ¬ v ∈ P → c v = false) → ∀ v, c v = false) := by
  constructor
  · intro H c h1 h2 h3
    refine H c (fun e he hs => ?_) h3
    by_cases hen : e = n
    · rw [hen]; exact h2
    · rw [kc_ins_n hen] at hs
      exact h1 e (by omega) hs
  · intro H c h1 h3
    refine H c (fun e he hs => ?_) ?_ h3
    · exact h1 e (by omega) (by rw [kc_ins_n (by omega)]; exact hs)
    · exact h1 n (by omega) kc_ins_s
theorem kc_An_0 {A B : Nat → Nat} {n : Nat} {S : Nat → Bool} {P : List Nat} (h : S n = false) : kc_An A B (n + 1) S P ↔ kc_An A B n S P := by
  constructor
  · intro H c h1 h2
    refine H c (fun e he hs => ?_) h2
    by_cases hen : e = n
    · rw [hen, h] at hs; exact absurd hs (by decide)
    · exact h1 e (by omega) hs
  · intro H c h1 h2
    exact H c (fun e he hs => h1 e (by omega) hs) h2
/-- the rank: fewer edges than vertices in P don't hold them -/
theorem kc_rank : ∀ (n : Nat) (A B : Nat → Nat) (S : Nat → Bool) (P : List Nat), P.Nodup → kc_An A B n S P → P.length ≤ kc_size n S := by
  intro n
  induction n with
  | zero =>
    intro A B S P nd H
    cases P with
    | nil => exact Nat.le_refl _
    | cons p P =>
      have := H (fun v => decide (v ∈ p :: P)) (fun e he => absurd he (Nat.not_lt_zero e)) (fun v hv => decide_eq_false hv) p
      rw [decide_eq_true List.mem_cons_self] at this
      exact absurd this (by decide)
  | succ n ih =>
    intro A B S P nd H
    by_cases hS : S n = true
    · have hsz : kc_size (n + 1) S = kc_size n S + 1 := by simp only [kc_size, hS]; rfl
      have H' : kc_An A B (n + 1) (kc_ins n S) P := kc_An_congr (fun e he => by
        by_cases hen : e = n
        · rw [hen, hS, kc_ins_s]
        · rw [kc_ins_n hen]) H
      rw [kc_An_ins] at H'
      rw [hsz]
      by_cases hab : A n = B n
      · have := ih A B S P nd (fun c h1 h2 => H' c h1 (by rw [hab]) h2)
        omega
      · by_cases hb : B n ∈ P
        · have H2 := (kc_An_s nd hb hab).mp H'
          have := ih _ _ S _ (nd.erase _) H2
          rw [List.length_erase_of_mem hb] at this
          omega
        · by_cases ha : A n ∈ P
          · have H2 := (kc_An_s (A := A) (B := B) (n := n) (S := S) nd ha (fun z => hab z.symm)).mp (fun c h1 h2 h3 => H' c h1 h2.symm h3)
            have := ih _ _ S _ (nd.erase _) H2
            rw [List.length_erase_of_mem ha] at this
            omega
          · have := ih A B S P nd (fun c h1 h2 => H' c h1 (by rw [h2 _ ha, h2 _ hb]) h2)
            omega
    · have hS' : S n = false := by cases h : S n; rfl; exact absurd h hS
      have := ih A B S P nd ((kc_An_0 hS').mp H)
      simp only [kc_size, hS']
      exact this
noncomputable def kb_I (p : Prop) : Int := @ite _ p (Classical.propDecidable p) 1 0
theorem kb_t {p : Prop} (h : p) : kb_I p = 1 := by unfold kb_I; exact if_pos h
theorem kb_f {p : Prop} (h : ¬ p) : kb_I p = 0 := by unfold kb_I; exact if_neg h
theorem kb_c {p q : Prop} (h : p ↔ q) : kb_I p = kb_I q := by rw [propext h]
theorem kb_01 (p : Prop) : 0 ≤ kb_I p ∧ kb_I p ≤ 1 := by
  by_cases h : p
  · rw [kb_t h]; decide
  · rw [kb_f h]; decide
/-- Kirchhoff: T counts the sets of edges that hold P, as few as that takes -/
theorem kc_kirch : ∀ (n : Nat) (A B : Nat → Nat) (P : List Nat), P.Nodup → ka_T A B n P = kc_SS n (fun S => kb_I (kc_Good A B n S P)) := by
  intro n
  induction n with
  | zero =>
    intro A B P nd
    cases P with
    | nil =>
      have : kc_Good A B 0 (fun _ => false) [] := ⟨rfl, fun c _ h2 v => h2 v List.not_mem_nil⟩
      show (1 : Int) = kb_I _
      rw [kb_t this]
    | cons p P =>
      show (0 : Int) = kb_I _
      rw [kb_f]
      intro h
      exact absurd h.1 (by simp [kc_size])
  | succ n ih =>
    intro A B P nd
    simp only [kc_SS]
    have e0 : kc_SS n (fun S => kb_I (kc_Good A B (n + 1) S P)) = ka_T A B n P := by
      rw [ih A B P nd]
      refine kc_SS_congr n (fun S hS => kb_c ?_)
      have hn := hS n (Nat.le_refl n)
      unfold kc_Good
      rw [kc_An_0 hn]
      simp only [kc_size, hn]
      exact Iff.rfl
    rw [e0]
    have fl : (∀ S, kc_An A B (n + 1) (kc_ins n S) P → kc_An A B n S P) → kc_SS n (fun S => kb_I (kc_Good A B (n + 1) (kc_ins n S) P)) = 0 := by
      intro H
      rw [← kc_SS_zero n]
      refine kc_SS_congr n (fun S hS => kb_f ?_)
      intro hG
      have h1 := kc_rank n A B S P nd (H S hG.2)
      have h2 := hG.1
      rw [kc_size_ins] at h2
      omega
    by_cases hab : A n = B n
    · rw [fl (fun S H c h1 h2 => kc_An_ins.mp H c h1 (by rw [hab]) h2), Int.add_zero]
      exact kc_Psi_loop _ hab P nd _ (fun _ _ => rfl)
    · by_cases hb : B n ∈ P
      · have pm := List.perm_cons_erase hb
        have e1 : kc_SS n (fun S => kb_I (kc_Good A B (n + 1) (kc_ins n S) P)) = ka_T (fun e => kc_s (B n) (A n) (A e)) (fun e => kc_s (B n) (A n) (B e)) n (P.erase (B n)) := by
          rw [ih _ _ _ (nd.erase _)]
          refine kc_SS_congr n (fun S hS => kb_c ?_)
          unfold kc_Good
          rw [kc_An_ins, kc_An_s nd hb hab, kc_size_ins, List.length_erase_of_mem hb]
          have := List.length_pos_of_mem hb
          exact ⟨fun z => ⟨by omega, z.2⟩, fun z => ⟨by omega, z.2⟩⟩
        rw [e1, ka_T_perm pm nd, ka_T_perm pm nd]
        exact kc_dc hab (nd.erase _) (List.Nodup.not_mem_erase nd)
      · by_cases ha : A n ∈ P
        · have pm := List.perm_cons_erase ha
          have sw : ∀ (A B : Nat → Nat) (m : Nat) (Q : List Nat), ka_T A B m Q = ka_T B A m Q := by
            intro A B m Q
            unfold ka_T
            have : ∀ Q : List Nat, ka_Psi A B m Q (fun _ => 1) = ka_Psi B A m Q (fun _ => 1) := by
              intro Q
              induction Q with
              | nil => rfl
              | cons q Q ihq =>
                funext r
                show ka_Phi A B m q _ r = ka_Phi B A m q _ r
                rw [ihq]
                exact ka_S_comm m q _
            rw [this]
          have e1 : kc_SS n (fun S => kb_I (kc_Good A B (n + 1) (kc_ins n S) P)) = ka_T (fun e => kc_s (A n) (B n) (B e)) (fun e => kc_s (A n) (B n) (A e)) n (P.erase (A n)) := by
            rw [sw, ih _ _ _ (nd.erase _)]
            refine kc_SS_congr n (fun S hS => kb_c ?_)
            unfold kc_Good
            rw [kc_An_ins, ← kc_An_s nd ha (fun z => hab z.symm), kc_size_ins, List.length_erase_of_mem ha]
            have := List.length_pos_of_mem ha
            exact ⟨fun z => ⟨by omega, fun c h1 h2 => z.2 c h1 h2.symm⟩, fun z => ⟨by omega, fun c h1 h2 => z.2 c h1 h2.symm⟩⟩
          rw [e1, ka_T_perm pm nd, ka_T_perm pm nd, sw A B, sw A B]
          exact kc_dc (A := B) (B := A) (fun z => hab z.symm) (nd.erase _) (List.Nodup.not_mem_erase nd)
        · rw [fl (fun S H c h1 h2 => kc_An_ins.mp H c h1 (by rw [h2 _ ha, h2 _ hb]) h2), Int.add_zero]
          unfold ka_T
          rw [kc_Psi_out _ P ha hb]
theorem kc_SS_le : ∀ (n : Nat) {h h' : (Nat → Bool) → Int}, (∀ S, h S ≤ h' S) → kc_SS n h ≤ kc_SS n h' := by
  intro n
  induction n with
  | zero => intro h h' H; exact H _
  | succ n ih =>
    intro h h' H
    exact Int.add_le_add (ih H) (ih (fun S => H _))
theorem kc_SS_one : ∀ n, kc_SS n (fun _ => 1) = 2 ^ n := by
  intro n
  induction n with
  | zero => rfl
  | succ n ih => simp only [kc_SS, ih]; rw [Int.pow_succ]; omega
theorem kc_T_le {A B : Nat → Nat} {n : Nat} {P : List Nat} (nd : P.Nodup) : ka_T A B n P ≤ 2 ^ n := by
  rw [kc_kirch n A B P nd, ← kc_SS_one]
  exact kc_SS_le n (fun S => (kb_01 _).2)
end
section
/-! ===== spanning trees by colourings: duals, the symmetric exchange, cheapest trees ===== -/
def ex_Conn (A B : Nat → Nat) (n : Nat) (S : Nat → Bool) : Prop := ∀ c : Nat → Bool, (∀ e, e < n → S e = true → c (A e) = c (B e)) → ∀ v, v < 7 → c v = c 0
def ex_Tr (A B : Nat → Nat) (n : Nat) (S : Nat → Bool) : Prop := kc_size n S = 6 ∧ ex_Conn A B n S
/-- remove f, add e -/
def ex_g (S : Nat → Bool) (f e : Nat) : Nat → Bool := fun j => if j = e then true else if j = f then false else S j
def ex_del (S : Nat → Bool) (f : Nat) : Nat → Bool := fun j => if j = f then false else S j
def ex_Ends (A B : Nat → Nat) (n : Nat) : Prop := ∀ e, e < n → A e < 7 ∧ B e < 7
theorem ex_six : ∀ v, v ∈ [1, 2, 3, 4, 5, 6] ↔ (v < 7 ∧ v ≠ 0) := by
  intro v
  simp only [List.mem_cons, List.not_mem_nil, or_false]
  omega
theorem ex_nd6 : [1, 2, 3, 4, 5, 6].Nodup := by decide
theorem ex_Conn_An {A B : Nat → Nat} {n : Nat} {S : Nat → Bool} (he : ex_Ends A B n) : ex_Conn A B n S ↔ kc_An A B n S [1, 2, 3, 4, 5, 6] := by
  constructor
  · intro H c h1 h2 v
    have h0 : c 0 = false := h2 0 (by rw [ex_six]; omega)
    by_cases hv : v < 7
    · rw [H c h1 v hv, h0]
    · exact h2 v (by rw [ex_six]; omega)
  · intro H c h1 v hv
    have := H (fun x => if x < 7 then (c x ^^ c 0) else false) (fun e hen hs => by
      (try dsimp only)
      rw [if_pos (he e hen).1, if_pos (he e hen).2, h1 e hen hs]) (fun x hx => by
      (try dsimp only)
      rw [ex_six] at hx
      by_cases h7 : x < 7
      · have : x = 0 := by omega
        rw [if_pos h7, this]; cases c 0 <;> rfl
      · rw [if_neg h7]) v
    (try dsimp only at this)
    rw [if_pos hv] at this
    revert this
    cases c v <;> cases c 0 <;> decide
theorem ex_size_del {S : Nat → Bool} {f : Nat} (hf : S f = true) : ∀ n, f < n → kc_size n (ex_del S f) + 1 = kc_size n S := by
  intro n
  induction n with
  | zero => intro h; exact absurd h (Nat.not_lt_zero f)
  | succ n ih =>
    intro h
    simp only [kc_size]
    by_cases hn : f = n
    · subst hn
      have e1 : ex_del S f f = false := if_pos rfl
      rw [e1, hf, kc_size_congr (S := ex_del S f) (S' := S) f (fun e he => if_neg (by omega))]
      rfl
    · have e1 : ex_del S f n = S n := if_neg (fun z => hn z.symm)
      rw [e1]
      have := ih (by omega)
      omega
theorem ex_size_g {S : Nat → Bool} {f e : Nat} (hf : S f = true) (he : S e = false) (n : Nat) (hfn : f < n) (hen : e < n) : kc_size n (ex_g S f e) = kc_size n S := by
  have h1 := ex_size_del hf n hfn
  have h2 : ex_g S f e e = true := if_pos rfl
  have h3 := ex_size_del h2 n hen
  have hfe : f ≠ e := fun z => by rw [z, he] at hf; exact absurd hf (by decide)
  have h4 : kc_size n (ex_del (ex_g S f e) e) = kc_size n (ex_del S f) := by
    refine kc_size_congr n (fun j hj => ?_)
    unfold ex_del ex_g
    by_cases hje : j = e
    · rw [if_pos hje, if_neg (show ¬ j = f by omega), hje, he]
    · rw [if_neg hje, if_neg hje]
  omega
/-- the edges of a tree are no loops -/
theorem ex_noloop {A B : Nat → Nat} {n : Nat} {S : Nat → Bool} (hE : ex_Ends A B n) (h : ex_Tr A B n S) {e : Nat} (he : e < n) (hs : S e = true) : A e ≠ B e := by
  intro z
  have h1 : ex_Conn A B n (ex_del S e) := by
    intro c hc
    refine h.2 c (fun g hg hgs => ?_)
    by_cases hge : g = e
    · rw [hge, z]
    · exact hc g hg (by unfold ex_del; rw [if_neg hge]; exact hgs)
  have h2 := kc_rank n A B _ _ ex_nd6 ((ex_Conn_An hE).mp h1)
  have h3 := ex_size_del hs n he
  have h4 := h.1
  have h5 : [1, 2, 3, 4, 5, 6].length = 6 := rfl
  omega
/-- X f: a colouring that only f of the tree's edges crosses; false at 0 -/
def ex_Dual (A B : Nat → Nat) (n : Nat) (S : Nat → Bool) (X : Nat → Nat → Bool) : Prop := ∀ f, f < n → S f = true → (X f 0 = false ∧ ∀ g, g < n → S g = true → (X f (A g) ^^ X f (B g)) = decide (g = f))
theorem ex_dual1 {A B : Nat → Nat} {n : Nat} {S : Nat → Bool} (hE : ex_Ends A B n) (h : ex_Tr A B n S) {f : Nat} (hf : f < n) (hs : S f = true) : ∃ x : Nat → Bool, x 0 = false ∧ ∀ g, g < n → S g = true → (x (A g) ^^ x (B g)) = decide (g = f) := by
  have h3 := ex_size_del hs n hf
  have h4 := h.1
  have h5 : [1, 2, 3, 4, 5, 6].length = 6 := rfl
  have hn : ¬ kc_An A B n (ex_del S f) [1, 2, 3, 4, 5, 6] := fun z => by
    have h2 := kc_rank n A B _ _ ex_nd6 z
    omega
  apply Classical.byContradiction
  intro hno
  apply hn
  intro c h1 h2 v
  have c0 : c 0 = false := h2 0 (by rw [ex_six]; omega)
  by_cases hc : c (A f) = c (B f)
  · have hall := h.2 c (fun g hg hgs => by
      by_cases hgf : g = f
      · rw [hgf]; exact hc
      · exact h1 g hg (by unfold ex_del; rw [if_neg hgf]; exact hgs))
    by_cases hv : v < 7
    · rw [hall v hv, c0]
    · exact h2 v (by rw [ex_six]; omega)
  · exfalso
    apply hno
    refine ⟨c, c0, fun g hg hgs => ?_⟩
    by_cases hgf : g = f
    · rw [hgf, decide_eq_true rfl]
      revert hc
      cases c (A f) <;> cases c (B f) <;> decide
    · rw [decide_eq_false hgf, h1 g hg (by unfold ex_del; rw [if_neg hgf]; exact hgs)]
      cases c (B g) <;> rfl
theorem ex_dual {A B : Nat → Nat} {n : Nat} {S : Nat → Bool} (hE : ex_Ends A B n) (h : ex_Tr A B n S) : ∃ X : Nat → Nat → Bool, ex_Dual A B n S X := by
  have : ∀ f, ∃ x : Nat → Bool, f < n → S f = true → (x 0 = false ∧ ∀ g, g < n → S g = true → (x (A g) ^^ x (B g)) = decide (g = f)) := by
    intro f
    by_cases hf : f < n
    · by_cases hs : S f = true
      · obtain ⟨x, hx⟩ := ex_dual1 hE h hf hs
        exact ⟨x, fun _ _ => hx⟩
      · exact ⟨fun _ => false, fun _ z => absurd z hs⟩
    · exact ⟨fun _ => false, fun z => absurd z hf⟩
  exact ⟨fun f => (this f).choose, fun f hf hs => (this f).choose_spec hf hs⟩
theorem ex_bx {a b : Bool} : (a ^^ b) = false ↔ a = b := by cases a <;> cases b <;> decide
/-- T - f + e connects just if the dual of f sees e -/
theorem ex_cross {A B : Nat → Nat} {n : Nat} {S : Nat → Bool} {X : Nat → Nat → Bool} (hE : ex_Ends A B n) (h : ex_Tr A B n S) (hX : ex_Dual A B n S X) {f e : Nat} (hf : f < n) (hfs : S f = true) (he : e < n) (hes : S e = false) :
    ex_Tr A B n (ex_g S f e) ↔ (X f (A e) ^^ X f (B e)) = true := by
  have hfe : f ≠ e := fun z => by rw [z, hes] at hfs; exact absurd hfs (by decide)
  have hx := (hX f hf hfs).2
  constructor
  · intro hT
    apply Classical.byContradiction
    intro hc
    have hc' : X f (A e) = X f (B e) := ex_bx.mp (by revert hc; cases (X f (A e) ^^ X f (B e)) <;> decide)
    have hall := hT.2 (X f) (fun g hg hgs => by
      by_cases hge : g = e
      · rw [hge]; exact hc'
      · unfold ex_g at hgs
        rw [if_neg hge] at hgs
        by_cases hgf : g = f
        · rw [if_pos hgf] at hgs; exact absurd hgs (by decide)
        · rw [if_neg hgf] at hgs
          have := hx g hg hgs
          rw [decide_eq_false hgf] at this
          exact ex_bx.mp this)
    have h1 := hx f hf hfs
    rw [hall _ (hE f hf).1, hall _ (hE f hf).2, decide_eq_true rfl] at h1
    revert h1
    cases X f 0 <;> decide
  · intro hc
    refine ⟨by rw [ex_size_g hfs hes n hf he]; exact h.1, ?_⟩
    intro c h1
    have hce : c (A e) = c (B e) := h1 e he (if_pos rfl)
    have hoth : ∀ g, g < n → S g = true → g ≠ f → c (A g) = c (B g) := by
      intro g hg hgs hgf
      have hge : g ≠ e := fun z => by rw [z, hes] at hgs; exact absurd hgs (by decide)
      exact h1 g hg (by unfold ex_g; rw [if_neg hge, if_neg hgf]; exact hgs)
    by_cases hcf : c (A f) = c (B f)
    · refine h.2 c (fun g hg hgs => ?_)
      by_cases hgf : g = f
      · rw [hgf]; exact hcf
      · exact hoth g hg hgs hgf
    · exfalso
      have hall := h.2 (fun v => c v ^^ X f v) (fun g hg hgs => by
        (try dsimp only)
        have hd := hx g hg hgs
        by_cases hgf : g = f
        · rw [hgf] at hd ⊢
          rw [decide_eq_true rfl] at hd
          revert hd hcf
          cases c (A f) <;> cases c (B f) <;> cases X f (A f) <;> cases X f (B f) <;> decide
        · rw [decide_eq_false hgf] at hd
          rw [hoth g hg hgs hgf, ex_bx.mp hd])
      have p1 := hall _ (hE e he).1
      have p2 := hall _ (hE e he).2
      (try dsimp only at p1 p2)
      rw [← p2, hce] at p1
      revert p1 hc
      cases c (B e) <;> cases X f (A e) <;> cases X f (B e) <;> decide
/-! a finite exclusive-or -/
def ex_xs : Nat → (Nat → Bool) → Bool
  | 0, _ => false
  | n + 1, h => ex_xs n h ^^ h n
theorem ex_xs_x (h k : Nat → Bool) : ∀ n, ex_xs n (fun f => h f ^^ k f) = (ex_xs n h ^^ ex_xs n k) := by
  intro n
  induction n with
  | zero => rfl
  | succ n ih =>
    simp only [ex_xs, ih]
    cases ex_xs n h <;> cases ex_xs n k <;> cases h n <;> cases k n <;> rfl
theorem ex_xs_ex {h : Nat → Bool} : ∀ n, ex_xs n h = true → ∃ f, f < n ∧ h f = true := by
  intro n
  induction n with
  | zero => intro z; exact absurd (show false = true from z) (by decide)
  | succ n ih =>
    intro z
    by_cases hn : h n = true
    · exact ⟨n, by omega, hn⟩
    · have hn' : h n = false := by revert hn; cases h n <;> decide
      simp only [ex_xs, hn', Bool.xor_false] at z
      obtain ⟨f, hf, hh⟩ := ih z
      exact ⟨f, by omega, hh⟩
theorem ex_xs_0 {h : Nat → Bool} : ∀ n, (∀ f, f < n → h f = false) → ex_xs n h = false := by
  intro n
  induction n with
  | zero => intro _; rfl
  | succ n ih =>
    intro H
    simp only [ex_xs]
    rw [ih (fun f hf => H f (by omega)), H n (by omega)]
    rfl
theorem ex_xs_1 {h : Nat → Bool} {g : Nat} : ∀ n, g < n → (∀ f, f < n → f ≠ g → h f = false) → ex_xs n h = h g := by
  intro n
  induction n with
  | zero => intro z; exact absurd z (Nat.not_lt_zero g)
  | succ n ih =>
    intro hg H
    simp only [ex_xs]
    by_cases hgn : g = n
    · rw [← hgn, ex_xs_0 g (fun f hf => H f (by omega) (by omega)), Bool.false_xor]
    · rw [ih (by omega) (fun f hf => H f (by omega)), H n (by omega) (fun z => hgn z.symm), Bool.xor_false]
/-- a crossing of c by e is seen on e's way in the tree -/
theorem ex_kl {A B : Nat → Nat} {n : Nat} {S : Nat → Bool} {X : Nat → Nat → Bool} (hE : ex_Ends A B n) (h : ex_Tr A B n S) (hX : ex_Dual A B n S X) (c : Nat → Bool) {a b : Nat} (ha : a < 7) (hb : b < 7) (hc : (c a ^^ c b) = true) :
    ∃ f, f < n ∧ S f = true ∧ (c (A f) ^^ c (B f)) = true ∧ (X f a ^^ X f b) = true := by
  let c' : Nat → Bool := fun v => ex_xs n (fun f => (S f && (c (A f) ^^ c (B f))) && X f v)
  have d' : ∀ x y, (c' x ^^ c' y) = ex_xs n (fun f => (S f && (c (A f) ^^ c (B f))) && (X f x ^^ X f y)) := by
    intro x y
    show (ex_xs n _ ^^ ex_xs n _) = _
    rw [← ex_xs_x]
    congr 1
    funext f
    cases S f <;> cases (c (A f) ^^ c (B f)) <;> cases X f x <;> cases X f y <;> rfl
  have hall := h.2 (fun v => c v ^^ c' v) (fun g hg hgs => by
    have e1 : (c' (A g) ^^ c' (B g)) = (c (A g) ^^ c (B g)) := by
      rw [d', ex_xs_1 n hg (fun f hf hfg => ?_)]
      · rw [(hX g hg hgs).2 g hg hgs, hgs, decide_eq_true rfl, Bool.true_and, Bool.and_true]
      · by_cases hfs : S f = true
        · rw [(hX f hf hfs).2 g hg hgs, decide_eq_false (fun z => hfg z.symm), Bool.and_false]
        · have : S f = false := by revert hfs; cases S f <;> decide
          rw [this]; rfl
    (try dsimp only)
    revert e1
    cases c (A g) <;> cases c (B g) <;> cases c' (A g) <;> cases c' (B g) <;> decide)
  have p1 := hall a ha
  have p2 := hall b hb
  (try dsimp only at p1 p2)
  have e2 : (c' a ^^ c' b) = true := by
    revert p1 p2 hc
    cases c a <;> cases c b <;> cases c' a <;> cases c' b <;> cases (c 0 ^^ c' 0) <;> decide
  rw [d'] at e2
  obtain ⟨f, hf, hh⟩ := ex_xs_ex n e2
  rw [Bool.and_eq_true, Bool.and_eq_true] at hh
  exact ⟨f, hf, hh.1.1, hh.1.2, hh.2⟩
/-- the symmetric exchange -/
theorem ex_se {A B : Nat → Nat} {n : Nat} {S R : Nat → Bool} (hE : ex_Ends A B n) (hS : ex_Tr A B n S) (hR : ex_Tr A B n R) {e : Nat} (he : e < n) (heS : S e = true) (heR : R e = false) :
    ∃ f, f < n ∧ R f = true ∧ S f = false ∧ ex_Tr A B n (ex_g S e f) ∧ ex_Tr A B n (ex_g R f e) := by
  obtain ⟨X, hX⟩ := ex_dual hE hS
  obtain ⟨Y, hY⟩ := ex_dual hE hR
  have h1 := (hX e he heS).2
  obtain ⟨f, hf, hfR, hcf, hyf⟩ := ex_kl hE hR hY (X e) (hE e he).1 (hE e he).2 (by rw [h1 e he heS, decide_eq_true rfl])
  have hfS : S f = false := by
    cases hs : S f
    · rfl
    · exfalso
      rw [h1 f hf hs] at hcf
      have := of_decide_eq_true hcf
      rw [this, heR] at hfR
      exact absurd hfR (by decide)
  exact ⟨f, hf, hfR, hfS, (ex_cross hE hS hX he heS hf hfS).mpr hcf, (ex_cross hE hR hY hf hfR he heR).mpr hyf⟩
/-! costs -/
def ex_cost (W : Nat → Nat) : Nat → (Nat → Bool) → Nat
  | 0, _ => 0
  | n + 1, S => ex_cost W n S + (if S n = true then W n else 0)
theorem ex_cost_congr {W : Nat → Nat} {S S' : Nat → Bool} : ∀ n, (∀ e, e < n → S e = S' e) → ex_cost W n S = ex_cost W n S' := by
  intro n
  induction n with
  | zero => intro _; rfl
  | succ n ih =>
    intro h
    simp only [ex_cost]
    rw [ih (fun e he => h e (by omega)), h n (by omega)]
theorem ex_cost_del {W : Nat → Nat} {S : Nat → Bool} {f : Nat} (hf : S f = true) : ∀ n, f < n → ex_cost W n (ex_del S f) + W f = ex_cost W n S := by
  intro n
  induction n with
  | zero => intro h; exact absurd h (Nat.not_lt_zero f)
  | succ n ih =>
    intro h
    simp only [ex_cost]
    by_cases hn : f = n
    · subst hn
      have e1 : ex_del S f f = false := if_pos rfl
      rw [e1, hf, ex_cost_congr (S := ex_del S f) (S' := S) f (fun e he => if_neg (by omega))]
      rfl
    · have e1 : ex_del S f n = S n := if_neg (fun z => hn z.symm)
      rw [e1]
      have := ih (by omega)
      omega
theorem ex_cost_g {W : Nat → Nat} {S : Nat → Bool} {f e : Nat} (hf : S f = true) (he : S e = false) (n : Nat) (hfn : f < n) (hen : e < n) : ex_cost W n (ex_g S f e) + W f = ex_cost W n S + W e := by
  have h1 := ex_cost_del (W := W) hf n hfn
  have h2 : ex_g S f e e = true := if_pos rfl
  have h3 := ex_cost_del (W := W) h2 n hen
  have hfe : f ≠ e := fun z => by rw [z, he] at hf; exact absurd hf (by decide)
  have h4 : ex_cost W n (ex_del (ex_g S f e) e) = ex_cost W n (ex_del S f) := by
    refine ex_cost_congr n (fun j hj => ?_)
    unfold ex_del ex_g
    by_cases hje : j = e
    · rw [if_pos hje, if_neg (show ¬ j = f by omega), hje, he]
    · rw [if_neg hje, if_neg hje]
  omega
theorem ex_cost_le {W : Nat → Nat} {M : Nat} (hW : ∀ e, W e ≤ M) (S : Nat → Bool) : ∀ n, ex_cost W n S ≤ M * n := by
  intro n
  induction n with
  | zero => exact Nat.le_refl _
  | succ n ih =>
    have := hW n
    simp only [ex_cost]
    rw [Nat.mul_succ]
    split <;> omega
/-- no exchange makes T cheaper -/
def ex_Opt (A B : Nat → Nat) (n : Nat) (W : Nat → Nat) (T : Nat → Bool) : Prop := ∀ e f, e < n → f < n → T e = false → T f = true → ex_Tr A B n (ex_g T f e) → W f ≤ W e
def ex_diff (n : Nat) (R T : Nat → Bool) : Nat := kc_size n (fun j => R j && !T j)
theorem ex_diff_g {R T : Nat → Bool} {e f : Nat} (n : Nat) (he : e < n) (heR : R e = true) (heT : T e = false) (hfT : T f = true) : ex_diff n (ex_g R e f) T + 1 = ex_diff n R T := by
  unfold ex_diff
  have h1 : (fun j => R j && !T j) e = true := by (try dsimp only); rw [heR, heT]; rfl
  have h2 := ex_size_del (S := fun j => R j && !T j) h1 n he
  rw [← h2]
  congr 1
  refine kc_size_congr n (fun j hj => ?_)
  unfold ex_g ex_del
  by_cases hjf : j = f
  · rw [if_pos hjf, hjf, hfT]
    by_cases hje : f = e
    · rw [if_pos hje]; rfl
    · rw [if_neg hje]; (try dsimp only); rw [hfT]; cases R f <;> rfl
  · rw [if_neg hjf]
    by_cases hje : j = e
    · rw [if_pos hje, if_pos hje]; rfl
    · rw [if_neg hje, if_neg hje]
theorem ex_size0 {S : Nat → Bool} : ∀ n, kc_size n S = 0 → ∀ e, e < n → S e = false := by
  intro n
  induction n with
  | zero => intro _ e he; exact absurd he (Nat.not_lt_zero e)
  | succ n ih =>
    intro h e he
    simp only [kc_size] at h
    have hn : S n = false := by
      cases hs : S n
      · rfl
      · rw [hs, if_pos rfl] at h; omega
    by_cases hen : e = n
    · rw [hen]; exact hn
    · exact ih (by omega) e (by omega)
/-- two trees, one within the other, are the same -/
theorem ex_same {A B : Nat → Nat} {n : Nat} {S R : Nat → Bool} (hE : ex_Ends A B n) (hS : ex_Tr A B n S) (hR : ex_Tr A B n R) (hd : ex_diff n R S = 0) : ∀ e, e < n → R e = S e := by
  intro e he
  have h0 : ∀ j, j < n → R j = true → S j = true := by
    intro j hj hr
    have := ex_size0 n hd j hj
    (try dsimp only at this)
    rw [hr, Bool.true_and] at this
    revert this
    cases S j <;> decide
  cases hr : R e
  · cases hs : S e
    · rfl
    · exfalso
      obtain ⟨f, hf, hfR, hfS, _, _⟩ := ex_se hE hS hR he hs hr
      rw [h0 f hf hfR] at hfS
      exact absurd hfS (by decide)
  · rw [h0 e he hr]
/-- one step from a tree R towards T -/
theorem ex_step {A B : Nat → Nat} {n : Nat} {T R : Nat → Bool} (hE : ex_Ends A B n) (hT : ex_Tr A B n T) (hR : ex_Tr A B n R) (hd : ex_diff n R T ≠ 0) :
    ∃ e f, e < n ∧ f < n ∧ R e = true ∧ T e = false ∧ T f = true ∧ R f = false ∧ ex_Tr A B n (ex_g R e f) ∧ ex_Tr A B n (ex_g T f e) ∧ ex_diff n (ex_g R e f) T + 1 = ex_diff n R T := by
  have : ∃ e, e < n ∧ R e = true ∧ T e = false := by
    apply Classical.byContradiction
    intro hno
    apply hd
    have z : kc_size n (fun j => R j && !T j) = kc_size n (fun _ => false) := by
      refine kc_size_congr n (fun j hj => ?_)
      (try dsimp only)
      cases hr : R j
      · rfl
      · cases ht : T j
        · exact absurd ⟨j, hj, hr, ht⟩ hno
        · rfl
    have z0 : ∀ m, kc_size m (fun _ => false) = 0 := by
      intro m
      induction m with
      | zero => rfl
      | succ m ih => simp only [kc_size, ih]; rfl
    unfold ex_diff
    rw [z, z0]
  obtain ⟨e, he, heR, heT⟩ := this
  obtain ⟨f, hf, hfT, hfR, h1, h2⟩ := ex_se hE hR hT he heR heT
  exact ⟨e, f, he, hf, heR, heT, hfT, hfR, h1, h2, ex_diff_g n he heR heT hfT⟩
theorem ex_min {A B : Nat → Nat} {n : Nat} {W : Nat → Nat} {T : Nat → Bool} (hE : ex_Ends A B n) (hT : ex_Tr A B n T) (hO : ex_Opt A B n W T) : ∀ (k : Nat) (R : Nat → Bool), ex_diff n R T = k → ex_Tr A B n R → ex_cost W n T ≤ ex_cost W n R := by
  intro k
  induction k with
  | zero =>
    intro R hd hR
    rw [ex_cost_congr (S := T) (S' := R) n (fun e he => (ex_same hE hT hR hd e he).symm)]
    exact Nat.le_refl _
  | succ k ih =>
    intro R hd hR
    obtain ⟨e, f, he, hf, heR, heT, hfT, hfR, h1, h2, h3⟩ := ex_step hE hT hR (by omega)
    have i1 := ih _ (by omega) h1
    have i2 := ex_cost_g (W := W) heR hfR n he hf
    have i3 := hO e f he hf heT hfT h2
    omega
theorem ex_mn {A B : Nat → Nat} {n : Nat} {W : Nat → Nat} {T R : Nat → Bool} (hE : ex_Ends A B n) (hT : ex_Tr A B n T) (hO : ex_Opt A B n W T) (hR : ex_Tr A B n R) : ex_cost W n T ≤ ex_cost W n R := ex_min hE hT hO _ R rfl hR
/-- the next cost is reached by one exchange -/
theorem ex_next {A B : Nat → Nat} {n : Nat} {W : Nat → Nat} {T : Nat → Bool} (hE : ex_Ends A B n) (hT : ex_Tr A B n T) (hO : ex_Opt A B n W T) : ∀ (k : Nat) (R : Nat → Bool), ex_diff n R T = k → ex_Tr A B n R → ex_cost W n T < ex_cost W n R → ∃ e f, e < n ∧ f < n ∧ T e = false ∧ T f = true ∧ ex_Tr A B n (ex_g T f e) ∧ W f < W e ∧ ex_cost W n T + W e ≤ ex_cost W n R + W f := by
  intro k
  induction k with
  | zero =>
    intro R hd hR hlt
    rw [ex_cost_congr (S := T) (S' := R) n (fun e he => (ex_same hE hT hR hd e he).symm)] at hlt
    exact absurd hlt (Nat.lt_irrefl _)
  | succ k ih =>
    intro R hd hR hlt
    obtain ⟨e, f, he, hf, heR, heT, hfT, hfR, h1, h2, h3⟩ := ex_step hE hT hR (by omega)
    have i1 := ex_mn hE hT hO h1
    have i2 := ex_cost_g (W := W) heR hfR n he hf
    have i3 := hO e f he hf heT hfT h2
    by_cases hw : W f < W e
    · exact ⟨e, f, he, hf, heT, hfT, h2, hw, by omega⟩
    · obtain ⟨e', f', r1, r2, r3, r4, r5, r6, r7⟩ := ih _ (by omega) h1 (by omega)
      exact ⟨e', f', r1, r2, r3, r4, r5, r6, by omega⟩
/-- trees with an edge -/
theorem ex_with {A B : Nat → Nat} {n : Nat} {W : Nat → Nat} {T R : Nat → Bool} (hE : ex_Ends A B n) (hT : ex_Tr A B n T) (hO : ex_Opt A B n W T) (hR : ex_Tr A B n R) {e : Nat} (he : e < n) (heT : T e = false) (heR : R e = true) : ∃ f, f < n ∧ T f = true ∧ ex_Tr A B n (ex_g T f e) ∧ ex_cost W n T + W e ≤ ex_cost W n R + W f := by
  obtain ⟨f, hf, hfT, hfR, h1, h2⟩ := ex_se hE hR hT he heR heT
  have i1 := ex_mn hE hT hO h1
  have i2 := ex_cost_g (W := W) heR hfR n he hf
  exact ⟨f, hf, hfT, h2, by omega⟩
/-- trees without an edge -/
theorem ex_wout {A B : Nat → Nat} {n : Nat} {W : Nat → Nat} {T R : Nat → Bool} (hE : ex_Ends A B n) (hT : ex_Tr A B n T) (hO : ex_Opt A B n W T) (hR : ex_Tr A B n R) {e : Nat} (he : e < n) (heT : T e = true) (heR : R e = false) : ∃ f, f < n ∧ T f = false ∧ R f = true ∧ ex_Tr A B n (ex_g T e f) ∧ ex_cost W n T + W f ≤ ex_cost W n R + W e := by
  obtain ⟨f, hf, hfR, hfT, h1, h2⟩ := ex_se hE hT hR he heT heR
  have i1 := ex_mn hE hT hO h2
  have i2 := ex_cost_g (W := W) hfR heR n hf he
  exact ⟨f, hf, hfT, hfR, h1, by omega⟩
/-- what Kruskal's choice gives -/
theorem ex_kruskal {A B : Nat → Nat} {n : Nat} {W : Nat → Nat} {T : Nat → Bool} (hE : ex_Ends A B n) (hT : ex_Tr A B n T) (hK : ∀ e, e < n → T e = false → ∀ c : Nat → Bool, (∀ g, g < n → T g = true → W g ≤ W e → c (A g) = c (B g)) → c (A e) = c (B e)) : ex_Opt A B n W T := by
  intro e f he hf heT hfT h1
  obtain ⟨X, hX⟩ := ex_dual hE hT
  have hc := (ex_cross hE hT hX hf hfT he heT).mp h1
  apply Classical.byContradiction
  intro hw
  have := hK e he heT (X f) (fun g hg hgT hgw => by
    have hd := (hX f hf hfT).2 g hg hgT
    rw [decide_eq_false (fun z => by rw [z] at hgw; exact hw hgw)] at hd
    exact ex_bx.mp hd)
  rw [this] at hc
  revert hc
  cases X f (B e) <;> decide
/-- the bottleneck -/
theorem ex_bott {A B : Nat → Nat} {n : Nat} {W : Nat → Nat} {T : Nat → Bool} (hE : ex_Ends A B n) (hT : ex_Tr A B n T) (hO : ex_Opt A B n W T) {w : Nat} (hC : ex_Conn A B n (fun e => decide (W e ≤ w))) : ∀ f, f < n → T f = true → W f ≤ w := by
  intro f hf hfT
  obtain ⟨X, hX⟩ := ex_dual hE hT
  have hx := (hX f hf hfT).2
  apply Classical.byContradiction
  intro hw
  have h1 := hx f hf hfT
  rw [decide_eq_true rfl] at h1
  have hall := hC (X f) (fun e he hs => by
    have hew : W e ≤ w := of_decide_eq_true hs
    cases heT : T e
    · apply ex_bx.mp
      cases hc : (X f (A e) ^^ X f (B e))
      · rfl
      · have := hO e f he hf heT hfT ((ex_cross hE hT hX hf hfT he heT).mpr hc)
        omega
    · have := hx e he heT
      rw [decide_eq_false (fun z => by rw [z] at hew; exact hw hew)] at this
      exact ex_bx.mp this)
  rw [hall _ (hE f hf).1, hall _ (hE f hf).2] at h1
  revert h1
  cases X f 0 <;> decide
end
section
/-! ===== sets as numbers, products of sums ===== -/
theorem ms_size_add (p : Nat → Bool) (m : Nat) : ∀ k, kc_size (m + k) p = kc_size m p + kc_size k (fun i => p (m + i)) := by
  intro k
  induction k with
  | zero => rfl
  | succ k ih =>
    show kc_size (m + k) p + _ = kc_size m p + (kc_size k (fun i => p (m + i)) + _)
    rw [ih, Nat.add_assoc]
    rfl
theorem ms_tb {n s : Nat} (hs : s < 2 ^ n) : (fun e => (2 ^ n + s).testBit e) = kc_ins n (fun e => s.testBit e) := by
  funext e
  unfold kc_ins
  by_cases h : e = n
  · rw [if_pos h, h, Nat.testBit_two_pow_add_eq, Nat.testBit_lt_two_pow hs]
    rfl
  · rw [if_neg h]
    rcases Nat.lt_or_ge e n with h1 | h1
    · rw [Nat.testBit_two_pow_add_gt h1]
    · have h2 : n + 1 ≤ e := by omega
      have h3 : 2 ^ (n + 1) ≤ 2 ^ e := Nat.pow_le_pow_right (by decide) h2
      have h4 : 2 ^ (n + 1) = 2 ^ n + 2 ^ n := by rw [Nat.pow_succ]; omega
      (try dsimp only)
      rw [Nat.testBit_lt_two_pow (show 2 ^ n + s < 2 ^ e by omega), Nat.testBit_lt_two_pow (show s < 2 ^ e by omega)]
theorem ms_zero : (fun e => (0 : Nat).testBit e) = fun _ => false := by
  funext e
  exact Nat.zero_testBit e
/-- a count over numbers below 2^n is a sum over sets -/
theorem ms_count : ∀ (n : Nat) (p : Nat → Bool) (Q : (Nat → Bool) → Prop), (∀ s, s < 2 ^ n → (p s = true ↔ Q (fun e => s.testBit e))) → (kc_size (2 ^ n) p : Int) = kc_SS n (fun S => kb_I (Q S)) := by
  intro n
  induction n with
  | zero =>
    intro p Q H
    have h0 := H 0 (by decide)
    rw [ms_zero] at h0
    show ((kc_size 1 p : Nat) : Int) = kb_I (Q (fun _ => false))
    simp only [kc_size]
    by_cases h : p 0 = true
    · rw [if_pos h, kb_t (h0.mp h)]; rfl
    · rw [if_neg h, kb_f (fun z => h (h0.mpr z))]; rfl
  | succ n ih =>
    intro p Q H
    have e : 2 ^ (n + 1) = 2 ^ n + 2 ^ n := by rw [Nat.pow_succ]; omega
    rw [e, ms_size_add, Int.natCast_add]
    simp only [kc_SS]
    rw [ih p Q (fun s hs => H s (by omega)), ih (fun i => p (2 ^ n + i)) (fun S => Q (kc_ins n S)) (fun s hs => by
      rw [← ms_tb hs]
      exact H (2 ^ n + s) (by omega))]
theorem kb_and {p q : Prop} : kb_I (p ∧ q) = kb_I p * kb_I q := by
  by_cases h1 : p
  · by_cases h2 : q
    · rw [kb_t ⟨h1, h2⟩, kb_t h1, kb_t h2]; rfl
    · rw [kb_f (fun z => h2 z.2), kb_t h1, kb_f h2]; rfl
  · rw [kb_f (fun z => h1 z.1), kb_f h1, Int.zero_mul]
def ms_Sub (S D : Nat → Bool) : Prop := ∀ e, S e = true → D e = true
def ms_cap (S D : Nat → Bool) : Nat → Bool := fun e => S e && D e
/-- a sum over the sets within two disjoint domains is a product -/
theorem ms_prod (D1 D2 : Nat → Bool) (hd : ∀ e, D1 e = true → D2 e = false) : ∀ (n : Nat) (P Q : (Nat → Bool) → Int), (∀ S, ¬ ms_Sub S D1 → P S = 0) → (∀ S, ¬ ms_Sub S D2 → Q S = 0) → kc_SS n (fun S => kb_I (ms_Sub S (fun e => D1 e || D2 e)) * (P (ms_cap S D1) * Q (ms_cap S D2))) = kc_SS n P * kc_SS n Q := by
  intro n
  induction n with
  | zero =>
    intro P Q hP hQ
    have z : ms_cap (fun _ => false) D1 = (fun _ => false) := rfl
    have z2 : ms_cap (fun _ => false) D2 = (fun _ => false) := rfl
    simp only [kc_SS]
    have z3 : ms_Sub (fun _ => false) (fun e => D1 e || D2 e) := fun e he => absurd (show false = true from he) (by decide)
    rw [kb_t z3, z, z2, Int.one_mul]
  | succ n ih =>
    intro P Q hP hQ
    have mono : ∀ (D S : Nat → Bool), ¬ ms_Sub S D → ¬ ms_Sub (kc_ins n S) D := by
      intro D S h z
      apply h
      intro e he
      refine z e ?_
      by_cases hen : e = n
      · rw [hen]; exact kc_ins_s
      · rw [kc_ins_n hen]; exact he
    have capt : ∀ (D S : Nat → Bool), D n = true → ms_cap (kc_ins n S) D = kc_ins n (ms_cap S D) := by
      intro D S h
      funext e
      unfold ms_cap kc_ins
      by_cases hen : e = n
      · rw [if_pos hen, if_pos hen, hen, h]; rfl
      · rw [if_neg hen, if_neg hen]
    have capf : ∀ (D S : Nat → Bool), D n = false → S n = false → ms_cap (kc_ins n S) D = ms_cap S D := by
      intro D S h hs
      funext e
      unfold ms_cap kc_ins
      by_cases hen : e = n
      · rw [if_pos hen, hen, h, hs]; rfl
      · rw [if_neg hen]
    have subt : ∀ (D S : Nat → Bool), D n = true → (ms_Sub (kc_ins n S) D ↔ ms_Sub S D) := by
      intro D S h
      constructor
      · intro z
        apply Classical.byContradiction
        intro y
        exact mono D S y z
      · intro z e he
        by_cases hen : e = n
        · rw [hen]; exact h
        · rw [kc_ins_n hen] at he; exact z e he
    have nul : ∀ (D : Nat → Bool) (F : (Nat → Bool) → Int), D n = false → (∀ S, ¬ ms_Sub S D → F S = 0) → kc_SS n (fun S => F (kc_ins n S)) = 0 := by
      intro D F h hF
      rw [← kc_SS_zero n]
      refine kc_SS_congr n (fun S _ => hF _ (fun z => ?_))
      rw [z n kc_ins_s] at h
      exact absurd h (by decide)
    simp only [kc_SS]
    rw [ih P Q hP hQ]
    cases h1 : D1 n
    · cases h2 : D2 n
      · rw [nul D1 P h1 hP, nul D2 Q h2 hQ, Int.add_zero, Int.add_zero]
        have z : kc_SS n (fun S => kb_I (ms_Sub (kc_ins n S) (fun e => D1 e || D2 e)) * (P (ms_cap (kc_ins n S) D1) * Q (ms_cap (kc_ins n S) D2))) = 0 := by
          rw [← kc_SS_zero n]
          refine kc_SS_congr n (fun S _ => ?_)
          rw [kb_f (fun y => ?_), Int.zero_mul]
          have := y n kc_ins_s
          (try dsimp only at this)
          rw [h1, h2] at this
          exact absurd this (by decide)
        rw [z, Int.add_zero]
      · have e : kc_SS n (fun S => kb_I (ms_Sub (kc_ins n S) (fun e => D1 e || D2 e)) * (P (ms_cap (kc_ins n S) D1) * Q (ms_cap (kc_ins n S) D2))) = kc_SS n P * kc_SS n (fun S => Q (kc_ins n S)) := by
          rw [← ih P (fun S => Q (kc_ins n S)) hP (fun S hS => hQ _ (mono D2 S hS))]
          refine kc_SS_congr n (fun S hS => ?_)
          rw [capf D1 S h1 (hS n (Nat.le_refl n)), capt D2 S h2, kb_c (subt (fun e => D1 e || D2 e) S (by (try dsimp only); rw [h1, h2]; rfl))]
        rw [e, nul D1 P h1 hP, Int.add_zero, Int.mul_add]
    · have h2 := hd n h1
      have e : kc_SS n (fun S => kb_I (ms_Sub (kc_ins n S) (fun e => D1 e || D2 e)) * (P (ms_cap (kc_ins n S) D1) * Q (ms_cap (kc_ins n S) D2))) = kc_SS n (fun S => P (kc_ins n S)) * kc_SS n Q := by
        rw [← ih (fun S => P (kc_ins n S)) Q (fun S hS => hP _ (mono D1 S hS)) hQ]
        refine kc_SS_congr n (fun S hS => ?_)
        rw [capf D2 S h2 (hS n (Nat.le_refl n)), capt D1 S h1, kb_c (subt (fun e => D1 e || D2 e) S (by (try dsimp only); rw [h1]; rfl))]
      rw [e, nul D2 Q h2 hQ, Int.add_zero, Int.add_mul]
/-! sums of naturals -/
def ms_sum : Nat → (Nat → Nat) → Nat
  | 0, _ => 0
  | n + 1, h => ms_sum n h + h n
theorem ms_sum_add (h k : Nat → Nat) : ∀ n, ms_sum n (fun i => h i + k i) = ms_sum n h + ms_sum n k := by
  intro n
  induction n with
  | zero => rfl
  | succ n ih => simp only [ms_sum, ih]; omega
theorem ms_sum_0 {h : Nat → Nat} : ∀ n, (∀ i, i < n → h i = 0) → ms_sum n h = 0 := by
  intro n
  induction n with
  | zero => intro _; rfl
  | succ n ih => intro H; simp only [ms_sum]; rw [ih (fun i hi => H i (by omega)), H n (by omega)]
theorem ms_sum_1 {h : Nat → Nat} {g : Nat} : ∀ n, g < n → (∀ i, i < n → i ≠ g → h i = 0) → ms_sum n h = h g := by
  intro n
  induction n with
  | zero => intro z; exact absurd z (Nat.not_lt_zero g)
  | succ n ih =>
    intro hg H
    simp only [ms_sum]
    by_cases hgn : g = n
    · rw [← hgn, ms_sum_0 g (fun i hi => H i (by omega) (by omega)), Nat.zero_add]
    · rw [ih (by omega) (fun i hi => H i (by omega)), H n (by omega) (fun z => hgn z.symm), Nat.add_zero]
theorem ms_sum_le {h k : Nat → Nat} : ∀ n, (∀ i, i < n → h i ≤ k i) → ms_sum n h ≤ ms_sum n k := by
  intro n
  induction n with
  | zero => intro _; exact Nat.le_refl _
  | succ n ih =>
    intro H
    have h1 := ih (fun i hi => H i (by omega))
    have h2 := H n (by omega)
    simp only [ms_sum]
    omega
/-- sums that are equal, term by term not above: equal term by term -/
theorem ms_sum_eq {h k : Nat → Nat} : ∀ n, (∀ i, i < n → h i ≤ k i) → ms_sum n k ≤ ms_sum n h → ∀ i, i < n → h i = k i := by
  intro n
  induction n with
  | zero => intro _ _ i hi; exact absurd hi (Nat.not_lt_zero i)
  | succ n ih =>
    intro H hs i hi
    have h1 := ms_sum_le n (fun i hi => H i (by omega))
    have h2 := H n (by omega)
    simp only [ms_sum] at hs
    by_cases hin : i = n
    · rw [hin]; omega
    · exact ih (fun i hi => H i (by omega)) (by omega) i (by omega)
theorem ms_sum_congr {h k : Nat → Nat} : ∀ n, (∀ i, i < n → h i = k i) → ms_sum n h = ms_sum n k := by
  intro n H
  exact Nat.le_antisymm (ms_sum_le n (fun i hi => Nat.le_of_eq (H i hi))) (ms_sum_le n (fun i hi => Nat.le_of_eq (H i hi).symm))
/-- a set by the weights of its edges -/
theorem ms_size_w {W : Nat → Nat} {S : Nat → Bool} {m : Nat} : ∀ n, (∀ e, e < n → S e = true → W e < m) → kc_size n S = ms_sum m (fun w => kc_size n (fun e => S e && decide (W e = w))) := by
  intro n
  induction n with
  | zero => intro _; exact (ms_sum_0 m (fun _ _ => rfl)).symm
  | succ n ih =>
    intro H
    simp only [kc_size]
    rw [ms_sum_add, ← ih (fun e he => H e (by omega))]
    congr 1
    by_cases hs : S n = true
    · rw [ms_sum_1 (h := fun w => if (S n && decide (W n = w)) = true then 1 else 0) (g := W n) m (H n (by omega) hs) (fun i hi hne => by
        (try dsimp only)
        rw [decide_eq_false (fun z => hne z.symm), Bool.and_false]; rfl), hs, decide_eq_true rfl]
      rfl
    · have hs' : S n = false := by revert hs; cases S n <;> decide
      rw [ms_sum_0 (h := fun w => if (S n && decide (W n = w)) = true then 1 else 0) m (fun i hi => by (try dsimp only); rw [hs', Bool.false_and]; rfl), hs']
      rfl
theorem ms_cost_w {W : Nat → Nat} {S : Nat → Bool} {m : Nat} : ∀ n, (∀ e, e < n → S e = true → W e < m) → ex_cost W n S = ms_sum m (fun w => w * kc_size n (fun e => S e && decide (W e = w))) := by
  intro n
  induction n with
  | zero => intro _; exact (ms_sum_0 m (fun _ _ => rfl)).symm
  | succ n ih =>
    intro H
    simp only [kc_size, ex_cost, Nat.mul_add]
    rw [ms_sum_add, ← ih (fun e he => H e (by omega))]
    congr 1
    by_cases hs : S n = true
    · rw [ms_sum_1 (h := fun w => w * (if (S n && decide (W n = w)) = true then 1 else 0)) (g := W n) m (H n (by omega) hs) (fun i hi hne => by
        (try dsimp only)
        rw [decide_eq_false (fun z => hne z.symm), Bool.and_false]; rfl), hs, decide_eq_true rfl]
      exact (Nat.mul_one _).symm
    · have hs' : S n = false := by revert hs; cases S n <;> decide
      rw [ms_sum_0 (h := fun w => w * (if (S n && decide (W n = w)) = true then 1 else 0)) m (fun i hi => by (try dsimp only); rw [hs', Bool.false_and]; rfl), hs']
      rfl
theorem ms_filter (p : Nat → Bool) : ∀ n, ((List.range n).filter p).length = kc_size n p := by
  intro n
  induction n with
  | zero => rfl
  | succ n ih =>
    rw [List.range_succ, List.filter_append, List.length_append, ih]
    show _ = kc_size n p + _
    congr 1
    cases h : p n
    · rw [List.filter_cons_of_neg (by rw [h]; decide)]; rfl
    · rw [List.filter_cons_of_pos h]; rfl
end
section
/-! ===== cheapest trees weight by weight ===== -/
def wt_E (act : Nat → Bool) (U : Nat → Nat) : Nat → Nat := fun e => if act e = true then U e else 0
theorem wt_E_t {act : Nat → Bool} {U : Nat → Nat} {e : Nat} (h : act e = true) : wt_E act U e = U e := if_pos h
theorem wt_E_f {act : Nat → Bool} {U : Nat → Nat} {e : Nat} (h : act e = false) : wt_E act U e = 0 := if_neg (by rw [h]; decide)
/-- the edges of weight w -/
def wt_D (act : Nat → Bool) (W : Nat → Nat) (w : Nat) : Nat → Bool := fun e => act e && decide (W e = w)
/-- p names what the edges lighter than w join -/
def wt_L (act : Nat → Bool) (U V W : Nat → Nat) (w : Nat) (p : Nat → Nat) : Prop :=
  (∀ v, v < 7 → p v < 7) ∧ (∀ v, v < 7 → p (p v) = p v) ∧ (∀ e, e < 12 → act e = true → W e < w → p (U e) = p (V e)) ∧
  (∀ c : Nat → Bool, (∀ e, e < 12 → act e = true → W e < w → c (U e) = c (V e)) → ∀ v, v < 7 → c (p v) = c v)
def wt_M (p p' : Nat → Nat) : Prop := ∀ v, v < 7 → p' v = v → p v = v
def wt_k (p p' : Nat → Nat) : Nat → Bool := fun v => decide (p v = v) && !decide (p' v = v)
def wt_K (p p' : Nat → Nat) : List Nat := (List.range 7).filter (wt_k p p')
theorem wt_K_mem {p p' : Nat → Nat} {v : Nat} : v ∈ wt_K p p' ↔ (v < 7 ∧ p v = v ∧ p' v ≠ v) := by
  unfold wt_K
  rw [List.mem_filter, List.mem_range]
  unfold wt_k
  rw [Bool.and_eq_true, decide_eq_true_eq, Bool.not_eq_true', decide_eq_false_iff_not]
theorem wt_K_nd {p p' : Nat → Nat} : (wt_K p p').Nodup := List.Pairwise.filter _ List.nodup_range
def wt_V (U V : Nat → Nat) : Prop := ∀ e, e < 12 → U e < 7 ∧ V e < 7
theorem wt_comp {act : Nat → Bool} {U V W : Nat → Nat} {w : Nat} {p p' : Nat → Nat} (h : wt_L act U V W w p) (h' : wt_L act U V W (w + 1) p') : ∀ v, v < 7 → p' (p v) = p' v := by
  intro v hv
  have := h.2.2.2 (fun x => decide (p' x = p' v)) (fun e he ha hw => by
    (try dsimp only)
    rw [h'.2.2.1 e he ha (by omega)]) v hv
  (try dsimp only at this)
  rw [decide_eq_true (show p' v = p' v from rfl)] at this
  exact of_decide_eq_true this
theorem wt_fix {act : Nat → Bool} {U V W : Nat → Nat} {w : Nat} {p p' : Nat → Nat} (h' : wt_L act U V W (w + 1) p') (hM : wt_M p p') : ∀ v, v < 7 → p (p' v) = p' v := fun v hv => hM _ (h'.1 v hv) (h'.2.1 v hv)
theorem wt_An {act : Nat → Bool} {U V W : Nat → Nat} {w : Nat} {p p' : Nat → Nat} (hV : wt_V U V) (h : wt_L act U V W w p) (h' : wt_L act U V W (w + 1) p') (hM : wt_M p p') {S : Nat → Bool}
    (H : ∀ c : Nat → Bool, (∀ e, e < 12 → act e = true → W e < w → c (U e) = c (V e)) → (∀ e, e < 12 → S e = true → act e = true → W e = w → c (U e) = c (V e)) → ∀ e, e < 12 → act e = true → W e < w + 1 → c (U e) = c (V e)) :
    kc_An (wt_E (wt_D act W w) (fun e => p (U e))) (wt_E (wt_D act W w) (fun e => p (V e))) 12 S (wt_K p p') := by
  intro c h1 h2 v
  have hall := H (fun x => c (p x)) (fun e he ha hw => by (try dsimp only); rw [h.2.2.1 e he ha hw]) (fun e he hs ha hw => by
    have hd : wt_D act W w e = true := by unfold wt_D; rw [ha, decide_eq_true hw]; rfl
    have := h1 e he hs
    rw [wt_E_t hd, wt_E_t hd] at this
    exact this)
  have h4 := h'.2.2.2 (fun x => c (p x)) hall
  by_cases hv : v ∈ wt_K p p'
  · obtain ⟨v7, pv, pv'⟩ := wt_K_mem.mp hv
    have e1 := h4 v v7
    (try dsimp only at e1)
    rw [pv, wt_fix h' hM v v7] at e1
    rw [← e1]
    refine h2 _ (fun z => ?_)
    exact (wt_K_mem.mp z).2.2 (h'.2.1 v v7)
  · exact h2 v hv
theorem wt_span {act : Nat → Bool} {U V W : Nat → Nat} {w : Nat} {p p' : Nat → Nat} (hV : wt_V U V) (h : wt_L act U V W w p) (h' : wt_L act U V W (w + 1) p') {S : Nat → Bool}
    (hA : kc_An (wt_E (wt_D act W w) (fun e => p (U e))) (wt_E (wt_D act W w) (fun e => p (V e))) 12 S (wt_K p p')) (c : Nat → Bool)
    (h1 : ∀ e, e < 12 → act e = true → W e < w → c (U e) = c (V e)) (h2 : ∀ e, e < 12 → S e = true → act e = true → W e = w → c (U e) = c (V e)) :
    ∀ e, e < 12 → act e = true → W e < w + 1 → c (U e) = c (V e) := by
  have l4 := h.2.2.2 c h1
  have cm := wt_comp h h'
  have key : ∀ x, x < 7 → (c (p x) ^^ c (p' (p x))) = (c x ^^ c (p' x)) := by
    intro x hx
    rw [l4 x hx, cm x hx]
  have hz := hA (fun l => if l < 7 ∧ p l = l then (c l ^^ c (p' l)) else false) (fun e he hs => by
    by_cases hd : wt_D act W w e = true
    · rw [wt_E_t hd, wt_E_t hd]
      (try dsimp only)
      unfold wt_D at hd
      rw [Bool.and_eq_true, decide_eq_true_eq] at hd
      rw [if_pos ⟨h.1 _ (hV e he).1, h.2.1 _ (hV e he).1⟩, if_pos ⟨h.1 _ (hV e he).2, h.2.1 _ (hV e he).2⟩, key _ (hV e he).1, key _ (hV e he).2, h2 e he hs hd.1 hd.2, h'.2.2.1 e he hd.1 (by omega)]
    · have hd' : wt_D act W w e = false := by revert hd; cases wt_D act W w e <;> decide
      rw [wt_E_f hd', wt_E_f hd']) (fun l hl => by
    (try dsimp only)
    by_cases hc : l < 7 ∧ p l = l
    · rw [if_pos hc]
      have : p' l = l := by
        apply Classical.byContradiction
        intro z
        exact hl (wt_K_mem.mpr ⟨hc.1, hc.2, z⟩)
      rw [this]
      cases c l <;> rfl
    · rw [if_neg hc])
  have hf : ∀ x, x < 7 → c x = c (p' x) := by
    intro x hx
    have := hz (p x)
    (try dsimp only at this)
    rw [if_pos ⟨h.1 x hx, h.2.1 x hx⟩, key x hx] at this
    exact ex_bx.mp this
  intro e he ha hw
  by_cases hw2 : W e < w
  · exact h1 e he ha hw2
  · rw [hf _ (hV e he).1, hf _ (hV e he).2, h'.2.2.1 e he ha hw]
theorem wt_noloop {A B : Nat → Nat} {n : Nat} {S : Nat → Bool} {P : List Nat} (nd : P.Nodup) (h : kc_Good A B n S P) {e : Nat} (he : e < n) (hs : S e = true) : A e ≠ B e := by
  intro z
  have h1 : kc_An A B n (ex_del S e) P := by
    intro c hc
    refine h.2 c (fun g hg hgs => ?_)
    by_cases hge : g = e
    · rw [hge, z]
    · exact hc g hg (by unfold ex_del; rw [if_neg hge]; exact hgs)
  have h2 := kc_rank n A B _ _ nd h1
  have h3 := ex_size_del hs n he
  have h4 := h.1
  omega
theorem wt_size_split {p q r : Nat → Bool} : ∀ n, (∀ i, i < n → (p i = true ↔ (q i = true ∨ r i = true)) ∧ ¬ (q i = true ∧ r i = true)) → kc_size n p = kc_size n q + kc_size n r := by
  intro n
  induction n with
  | zero => intro _; rfl
  | succ n ih =>
    intro H
    have := H n (by omega)
    simp only [kc_size]
    rw [ih (fun i hi => H i (by omega))]
    revert this
    cases p n <;> cases q n <;> cases r n <;> simp <;> omega
/-- all labels at a weight's start; the whole is connected at the end -/
def wt_All (act : Nat → Bool) (U V W : Nat → Nat) (q : Nat → Nat → Nat) : Prop :=
  (∀ v, v < 7 → q 0 v = v) ∧ (∀ w, w ≤ 21 → wt_L act U V W w (q w)) ∧ (∀ w, w < 21 → wt_M (q w) (q (w + 1)))
theorem wt_tel {act : Nat → Bool} {U V W : Nat → Nat} {q : Nat → Nat → Nat} (h : wt_All act U V W q) : ∀ m, m ≤ 21 → 7 = kc_size 7 (fun v => decide (q m v = v)) + ms_sum m (fun w => (wt_K (q w) (q (w + 1))).length) := by
  intro m
  induction m with
  | zero =>
    intro _
    rw [kc_size_congr (S' := fun _ => true) 7 (fun v hv => decide_eq_true (h.1 v hv))]
    rfl
  | succ m ih =>
    intro hm
    have i1 := ih (by omega)
    have e : kc_size 7 (fun v => decide (q m v = v)) = kc_size 7 (fun v => decide (q (m + 1) v = v)) + kc_size 7 (wt_k (q m) (q (m + 1))) := by
      refine wt_size_split 7 (fun v hv => ?_)
      unfold wt_k
      have hM := h.2.2 m (by omega) v hv
      rw [Bool.and_eq_true, decide_eq_true_eq, decide_eq_true_eq, Bool.not_eq_true', decide_eq_false_iff_not]
      constructor
      · constructor
        · intro z
          by_cases z2 : q (m + 1) v = v
          · exact Or.inl z2
          · exact Or.inr ⟨z, z2⟩
        · intro z
          rcases z with z | z
          · exact hM z
          · exact z.1
      · intro z
        exact z.2.2 z.1
    show 7 = _ + (ms_sum m _ + (wt_K (q m) (q (m + 1))).length)
    have e2 : (wt_K (q m) (q (m + 1))).length = kc_size 7 (wt_k (q m) (q (m + 1))) := ms_filter _ 7
    omega
def wt_Good (act : Nat → Bool) (U V W : Nat → Nat) (q : Nat → Nat → Nat) (w : Nat) (S : Nat → Bool) : Prop :=
  kc_Good (wt_E (wt_D act W w) (fun e => q w (U e))) (wt_E (wt_D act W w) (fun e => q w (V e))) 12 S (wt_K (q w) (q (w + 1)))
section
variable {act : Nat → Bool} {U V W : Nat → Nat} {q : Nat → Nat → Nat}
theorem wt_ends (hV : wt_V U V) : ex_Ends (wt_E act U) (wt_E act V) 12 := by
  intro e he
  have := hV e he
  unfold wt_E
  constructor <;> split <;> omega
theorem wt_conn_act {S : Nat → Bool} (hS : ∀ e, e < 12 → S e = true → act e = true) {c : Nat → Bool} : (∀ e, e < 12 → S e = true → c (wt_E act U e) = c (wt_E act V e)) ↔ (∀ e, e < 12 → S e = true → c (U e) = c (V e)) := by
  constructor
  · intro h e he hs
    have := h e he hs
    rw [wt_E_t (hS e he hs), wt_E_t (hS e he hs)] at this
    exact this
  · intro h e he hs
    rw [wt_E_t (hS e he hs), wt_E_t (hS e he hs)]
    exact h e he hs
theorem wt_tree_act (hV : wt_V U V) {S : Nat → Bool} (h : ex_Tr (wt_E act U) (wt_E act V) 12 S) : ∀ e, e < 12 → S e = true → act e = true := by
  intro e he hs
  have := ex_noloop (wt_ends hV) h he hs
  cases ha : act e
  · rw [wt_E_f ha, wt_E_f ha] at this
    exact absurd rfl this
  · rfl
theorem wt_conn1 (hV : wt_V U V) (hq : wt_All act U V W q) (hW : ∀ e, W e ≤ 20) (hG : ex_Conn (wt_E act U) (wt_E act V) 12 (fun _ => true)) : kc_size 7 (fun v => decide (q 21 v = v)) = 1 := by
  have h21 := hq.2.1 21 (by omega)
  have hc : ∀ v, v < 7 → q 21 v = q 21 0 := by
    intro v hv
    have := hG (fun x => decide (q 21 x = q 21 0)) (fun e he _ => by
      (try dsimp only)
      cases ha : act e
      · rw [wt_E_f ha, wt_E_f ha]
      · rw [wt_E_t ha, wt_E_t ha, h21.2.2.1 e he ha (by have := hW e; omega)]) v hv
    (try dsimp only at this)
    rw [decide_eq_true (show q 21 0 = q 21 0 from rfl)] at this
    exact of_decide_eq_true this
  have hz : q 21 0 < 7 := h21.1 0 (by omega)
  have e : kc_size 7 (fun v => decide (q 21 v = v)) = kc_size 7 (fun v => decide (v = q 21 0)) := by
    refine kc_size_congr 7 (fun v hv => ?_)
    rw [hc v hv]
    by_cases z : v = q 21 0
    · rw [decide_eq_true z, decide_eq_true z.symm]
    · rw [decide_eq_false z, decide_eq_false (fun y => z y.symm)]
  rw [e]
  generalize q 21 0 = z at hz
  revert hz
  revert z
  decide
theorem wt_six (hV : wt_V U V) (hq : wt_All act U V W q) (hW : ∀ e, W e ≤ 20) (hG : ex_Conn (wt_E act U) (wt_E act V) 12 (fun _ => true)) : ms_sum 21 (fun w => (wt_K (q w) (q (w + 1))).length) = 6 := by
  have h1 := wt_tel hq 21 (by omega)
  have h2 := wt_conn1 hV hq hW hG
  omega
/-- c2: a cheapest tree, weight by weight -/
theorem wt_c2 (hV : wt_V U V) (hq : wt_All act U V W q) (hW : ∀ e, W e ≤ 20) (hG : ex_Conn (wt_E act U) (wt_E act V) 12 (fun _ => true)) {S : Nat → Bool} (hS : ex_Tr (wt_E act U) (wt_E act V) 12 S) (hmin : ∀ R, ex_Tr (wt_E act U) (wt_E act V) 12 R → ex_cost W 12 S ≤ ex_cost W 12 R) :
    ∀ w, w < 21 → wt_Good act U V W q w (ms_cap S (wt_D act W w)) := by
  have hE := wt_ends (act := act) hV
  have hact := wt_tree_act hV hS
  obtain ⟨X, hX⟩ := ex_dual hE hS
  have An : ∀ w, w < 21 → kc_An (wt_E (wt_D act W w) (fun e => q w (U e))) (wt_E (wt_D act W w) (fun e => q w (V e))) 12 (ms_cap S (wt_D act W w)) (wt_K (q w) (q (w + 1))) := by
    intro w hw
    refine wt_An hV (hq.2.1 w (by omega)) (hq.2.1 (w + 1) (by omega)) (hq.2.2 w hw) ?_
    intro c h1 h2 e he ha hwe
    apply Classical.byContradiction
    intro hne
    have h2' : ∀ f, f < 12 → S f = true → W f = w → c (U f) = c (V f) := by
      intro f hf hs hwf
      refine h2 f hf ?_ (hact f hf hs) hwf
      unfold ms_cap wt_D
      rw [hs, hact f hf hs, decide_eq_true hwf]
      rfl
    have heS : S e = false := by
      cases hs : S e
      · rfl
      · exfalso
        apply hne
        by_cases hlt : W e < w
        · exact h1 e he ha hlt
        · exact h2' e he hs (by omega)
    have hce : (c (wt_E act U e) ^^ c (wt_E act V e)) = true := by
      rw [wt_E_t ha, wt_E_t ha]
      revert hne
      cases c (U e) <;> cases c (V e) <;> decide
    obtain ⟨f, hf, hfS, hcf, hxf⟩ := ex_kl hE hS hX c (hE e he).1 (hE e he).2 hce
    have haf := hact f hf hfS
    rw [wt_E_t haf, wt_E_t haf] at hcf
    have hwf : w < W f := by
      apply Classical.byContradiction
      intro z
      have : c (U f) = c (V f) := by
        by_cases hlt : W f < w
        · exact h1 f hf haf hlt
        · exact h2' f hf hfS (by omega)
      rw [this] at hcf
      revert hcf
      cases c (V f) <;> decide
    have hT := (ex_cross hE hS hX hf hfS he heS).mpr hxf
    have i1 := hmin _ hT
    have i2 := ex_cost_g (W := W) hfS heS 12 hf he
    omega
  have hle : ∀ w, w < 21 → (wt_K (q w) (q (w + 1))).length ≤ kc_size 12 (fun e => S e && decide (W e = w)) := by
    intro w hw
    have := kc_rank 12 _ _ _ _ wt_K_nd (An w hw)
    refine Nat.le_trans this (Nat.le_of_eq ?_)
    refine kc_size_congr 12 (fun e he => ?_)
    unfold ms_cap wt_D
    cases hs : S e
    · rfl
    · rw [hact e he hs]; rfl
  have hsum := ms_size_w (W := W) (S := S) (m := 21) 12 (fun e _ _ => by have := hW e; omega)
  have h6 := wt_six hV hq hW hG
  have heq := ms_sum_eq 21 hle (by rw [← hsum, h6, hS.1]; exact Nat.le_refl _)
  intro w hw
  refine ⟨?_, An w hw⟩
  rw [heq w hw]
  refine kc_size_congr 12 (fun e he => ?_)
  unfold ms_cap wt_D
  cases hs : S e
  · rfl
  · rw [hact e he hs]; rfl
/-- c3: and back -/
theorem wt_c3 (hV : wt_V U V) (hq : wt_All act U V W q) (hW : ∀ e, W e ≤ 20) (hG : ex_Conn (wt_E act U) (wt_E act V) 12 (fun _ => true)) {S : Nat → Bool} (hact : ∀ e, e < 12 → S e = true → act e = true) (hS : ∀ w, w < 21 → wt_Good act U V W q w (ms_cap S (wt_D act W w))) :
    ex_Tr (wt_E act U) (wt_E act V) 12 S ∧ ex_cost W 12 S = ms_sum 21 (fun w => w * (wt_K (q w) (q (w + 1))).length) := by
  have hk : ∀ w, w < 21 → kc_size 12 (fun e => S e && decide (W e = w)) = (wt_K (q w) (q (w + 1))).length := by
    intro w hw
    rw [← (hS w hw).1]
    refine kc_size_congr 12 (fun e he => ?_)
    unfold ms_cap wt_D
    cases hs : S e
    · rfl
    · rw [hact e he hs]; rfl
  have hsz : ∀ e, e < 12 → S e = true → W e < 21 := fun e _ _ => by have := hW e; omega
  refine ⟨⟨?_, ?_⟩, ?_⟩
  · rw [ms_size_w 12 hsz, ← wt_six hV hq hW hG]
    exact ms_sum_congr 21 (fun w hw => hk w hw)
  · intro c hc
    rw [wt_conn_act hact] at hc
    have hall : ∀ w, w ≤ 21 → ∀ e, e < 12 → act e = true → W e < w → c (U e) = c (V e) := by
      intro w
      induction w with
      | zero => intro _ e _ _ z; exact absurd z (Nat.not_lt_zero _)
      | succ w ih =>
        intro hw
        refine wt_span hV (hq.2.1 w (by omega)) (hq.2.1 (w + 1) hw) (hS w (by omega)).2 c (ih (by omega)) (fun e he hs ha hwe => ?_)
        unfold ms_cap at hs
        rw [Bool.and_eq_true] at hs
        exact hc e he hs.1
    refine hG c (fun e he _ => ?_)
    cases ha : act e
    · rw [wt_E_f ha, wt_E_f ha]
    · rw [wt_E_t ha, wt_E_t ha]
      exact hall 21 (by omega) e he ha (by have := hW e; omega)
  · rw [ms_cost_w 12 hsz]
    exact ms_sum_congr 21 (fun w hw => by rw [hk w hw])
theorem wt_main (hV : wt_V U V) (hq : wt_All act U V W q) (hW : ∀ e, W e ≤ 20) (hG : ex_Conn (wt_E act U) (wt_E act V) 12 (fun _ => true)) {T : Nat → Bool} (hT : ex_Tr (wt_E act U) (wt_E act V) 12 T) (hmin : ∀ R, ex_Tr (wt_E act U) (wt_E act V) 12 R → ex_cost W 12 T ≤ ex_cost W 12 R) (S : Nat → Bool) :
    (ex_Tr (wt_E act U) (wt_E act V) 12 S ∧ ex_cost W 12 S = ex_cost W 12 T) ↔ ((∀ e, e < 12 → S e = true → act e = true) ∧ ∀ w, w < 21 → wt_Good act U V W q w (ms_cap S (wt_D act W w))) := by
  have cT := (wt_c3 hV hq hW hG (wt_tree_act hV hT) (wt_c2 hV hq hW hG hT hmin)).2
  constructor
  · intro h
    exact ⟨wt_tree_act hV h.1, wt_c2 hV hq hW hG h.1 (fun R hR => by rw [h.2]; exact hmin R hR)⟩
  · intro h
    have := wt_c3 hV hq hW hG h.1 h.2
    exact ⟨this.1, by rw [this.2, cT]⟩
/-! the product -/
def wt_P (h : Nat → Int) : Nat → Int
  | 0 => 1
  | m + 1 => wt_P h m * h m
def wt_Q (act : Nat → Bool) (U V W : Nat → Nat) (q : Nat → Nat → Nat) (m : Nat) (S : Nat → Bool) : Prop := ms_Sub S (fun e => act e && decide (W e < m)) ∧ ∀ w, w < m → wt_Good act U V W q w (ms_cap S (wt_D act W w))
theorem wt_SS_e : ∀ n, kc_SS n (fun S => kb_I (ms_Sub S (fun _ => false))) = 1 := by
  intro n
  induction n with
  | zero => exact kb_t (fun e z => z)
  | succ n ih =>
    simp only [kc_SS]
    have z : kc_SS n (fun S => kb_I (ms_Sub (kc_ins n S) (fun _ => false))) = 0 := by
      rw [← kc_SS_zero n]
      refine kc_SS_congr n (fun S _ => kb_f (fun z => ?_))
      exact absurd (show false = true from z n kc_ins_s) (by decide)
    rw [ih, z]
    rfl
theorem wt_prod : ∀ m, m ≤ 21 → kc_SS 12 (fun S => kb_I (wt_Q act U V W q m S)) = wt_P (fun w => ka_T (wt_E (wt_D act W w) (fun e => q w (U e))) (wt_E (wt_D act W w) (fun e => q w (V e))) 12 (wt_K (q w) (q (w + 1)))) m := by
  intro m
  induction m with
  | zero =>
    intro _
    show _ = (1 : Int)
    rw [← wt_SS_e 12]
    refine kc_SS_congr 12 (fun S _ => kb_c ?_)
    constructor
    · intro z e he
      have : (act e && decide (W e < 0)) = true := z.1 e he
      rw [decide_eq_false (Nat.not_lt_zero _), Bool.and_false] at this
      exact absurd this (by decide)
    · intro z
      exact ⟨fun e he => absurd (show false = true from z e he) (by decide), fun w hw => absurd hw (Nat.not_lt_zero w)⟩
  | succ m ih =>
    intro hm
    show _ = wt_P _ m * ka_T (wt_E (wt_D act W m) (fun e => q m (U e))) (wt_E (wt_D act W m) (fun e => q m (V e))) 12 (wt_K (q m) (q (m + 1)))
    rw [← ih (by omega), kc_kirch 12 _ _ _ wt_K_nd]
    have e1 : kc_SS 12 (fun S => kb_I (kc_Good (wt_E (wt_D act W m) (fun e => q m (U e))) (wt_E (wt_D act W m) (fun e => q m (V e))) 12 S (wt_K (q m) (q (m + 1))))) = kc_SS 12 (fun S => kb_I (ms_Sub S (wt_D act W m) ∧ wt_Good act U V W q m S)) := by
      refine kc_SS_congr 12 (fun S hS => kb_c ⟨fun z => ⟨fun e he => ?_, z⟩, fun z => z.2⟩)
      by_cases h12 : e < 12
      · have := wt_noloop wt_K_nd z h12 he
        cases hd : wt_D act W m e
        · rw [wt_E_f hd, wt_E_f hd] at this
          exact absurd rfl this
        · rfl
      · rw [hS e (by omega)] at he
        exact absurd he (by decide)
    rw [e1, ← ms_prod (fun e => act e && decide (W e < m)) (wt_D act W m) (fun e he => by
      rw [Bool.and_eq_true, decide_eq_true_eq] at he
      unfold wt_D
      rw [decide_eq_false (show ¬ W e = m by omega), Bool.and_false]) 12 (fun S => kb_I (wt_Q act U V W q m S)) (fun S => kb_I (ms_Sub S (wt_D act W m) ∧ wt_Good act U V W q m S)) (fun S hS => kb_f (fun z => hS z.1)) (fun S hS => kb_f (fun z => hS z.1))]
    refine kc_SS_congr 12 (fun S hS => ?_)
    rw [← kb_and, ← kb_and]
    have dm : ∀ e, ((act e && decide (W e < m)) || wt_D act W m e) = (act e && decide (W e < m + 1)) := by
      intro e
      unfold wt_D
      cases act e
      · rfl
      · rw [Bool.true_and, Bool.true_and, Bool.true_and]
        by_cases h1 : W e < m
        · rw [decide_eq_true h1, decide_eq_true (show W e < m + 1 by omega)]; rfl
        · by_cases h2 : W e = m
          · rw [decide_eq_false h1, decide_eq_true h2, decide_eq_true (show W e < m + 1 by omega)]; rfl
          · rw [decide_eq_false h1, decide_eq_false h2, decide_eq_false (show ¬ W e < m + 1 by omega)]; rfl
    have cc : ∀ w, w < m → ms_cap (ms_cap S (fun e => act e && decide (W e < m))) (wt_D act W w) = ms_cap S (wt_D act W w) := by
      intro w hw
      funext e
      unfold ms_cap wt_D
      (try dsimp only)
      by_cases h2 : W e = w
      · rw [decide_eq_true h2, decide_eq_true (show W e < m by omega)]
        cases S e <;> cases act e <;> rfl
      · rw [decide_eq_false h2, Bool.and_false, Bool.and_false, Bool.and_false]
    have capS : ∀ D : Nat → Bool, ms_Sub (ms_cap S D) D := by
      intro D e he
      unfold ms_cap at he
      rw [Bool.and_eq_true] at he
      exact he.2
    refine kb_c ?_
    unfold wt_Q
    rw [show (fun e => (act e && decide (W e < m)) || wt_D act W m e) = (fun e => act e && decide (W e < m + 1)) from funext dm]
    constructor
    · intro z
      refine ⟨z.1, ⟨capS _, fun w hw => ?_⟩, capS _, z.2 m (by omega)⟩
      rw [cc w hw]
      exact z.2 w (by omega)
    · intro z
      refine ⟨z.1, fun w hw => ?_⟩
      by_cases hwm : w = m
      · rw [hwm]; exact z.2.2.2
      · have := z.2.1.2 w (by omega)
        rw [cc w (by omega)] at this
        exact this
/-- the number of cheapest trees is the product -/
theorem wt_law (hV : wt_V U V) (hq : wt_All act U V W q) (hW : ∀ e, W e ≤ 20) (hG : ex_Conn (wt_E act U) (wt_E act V) 12 (fun _ => true)) {T : Nat → Bool} (hT : ex_Tr (wt_E act U) (wt_E act V) 12 T) (hmin : ∀ R, ex_Tr (wt_E act U) (wt_E act V) 12 R → ex_cost W 12 T ≤ ex_cost W 12 R) (p : Nat → Bool) (hp : ∀ s, s < 4096 → (p s = true ↔ (ex_Tr (wt_E act U) (wt_E act V) 12 (fun e => s.testBit e) ∧ ex_cost W 12 (fun e => s.testBit e) = ex_cost W 12 T))) :
    (kc_size 4096 p : Int) = wt_P (fun w => ka_T (wt_E (wt_D act W w) (fun e => q w (U e))) (wt_E (wt_D act W w) (fun e => q w (V e))) 12 (wt_K (q w) (q (w + 1)))) 21 := by
  rw [← wt_prod 21 (Nat.le_refl _)]
  have h := ms_count 12 p (fun S => ex_Tr (wt_E act U) (wt_E act V) 12 S ∧ ex_cost W 12 S = ex_cost W 12 T) hp
  refine Eq.trans h ?_
  refine kc_SS_congr 12 (fun S hS => kb_c ?_)
  rw [wt_main hV hq hW hG hT hmin S]
  unfold wt_Q
  constructor
  · intro z
    refine ⟨fun e he => ?_, z.2⟩
    by_cases h12 : e < 12
    · show (act e && decide (W e < 21)) = true
      rw [z.1 e h12 he, decide_eq_true (show W e < 21 by have := hW e; omega)]; rfl
    · rw [hS e (by omega)] at he
      exact absurd he (by decide)
  · intro z
    refine ⟨fun e he hs => ?_, z.2⟩
    have := z.1 e hs
    rw [Bool.and_eq_true] at this
    exact this.1
end
end
section
/-! ===== bits of nI, arrays of naturals, sets as masks ===== -/
theorem bh_bt {m i : Nat} (hi : i < 32) : bt (nI m) i = m.testBit i := by
  unfold bt
  show (BitVec.ofNat 32 m).getLsbD i = _
  rw [BitVec.getLsbD_ofNat, decide_eq_true hi, Bool.true_and]
theorem bh_or (a b : Nat) : nI a ||| nI b = nI (a ||| b) := by
  apply b_ext
  intro i hi
  rw [b_or, bh_bt hi, bh_bt hi, bh_bt hi, Nat.testBit_or]
theorem bh_sh {e : Nat} (he : e < 31) : (1 : Int32) <<< (nI e &&& 31) = nI (2 ^ e) := by
  have h := pk_shlN (n := 1) (nI e &&& 31) e (s_l e (by omega)) (by rw [Nat.one_mul]; exact Nat.pow_lt_pow_right (by decide) (by omega))
  rw [Nat.one_mul] at h
  exact h
theorem bh_bit {m e : Nat} (hm : m < 2 ^ 31) (he : e < 32) : ((nI m >>> (nI e &&& 31)) &&& 1) = nI (if m.testBit e = true then 1 else 0) := by
  rw [pk_shrN hm _ e (s_l e he)]
  have h := pk_andN (n := m / 2 ^ e) (Nat.lt_of_le_of_lt (Nat.div_le_self _ _) (by omega)) (m := 1) 1 (by decide)
  rw [h, Nat.testBit_eq_decide_div_mod_eq]
  refine congrArg nI ?_
  have h2 : m / 2 ^ e % 2 < 2 := Nat.mod_lt _ (by decide)
  by_cases h1 : m / 2 ^ e % 2 = 1
  · rw [decide_eq_true h1, if_pos rfl]; exact h1
  · rw [decide_eq_false h1, if_neg (by decide)]
    show m / 2 ^ e % 2 ^ 1 = 0
    rw [Nat.pow_one]
    omega
theorem bh_br {m e : Nat} {P Q : Prop} (hm : m < 2 ^ 31) (he : e < 32) (f : m.testBit e = true → P) (g : m.testBit e = false → Q) : (((nI m >>> (nI e &&& 31)) &&& 1) = 1 → P) ∧ (¬ ((nI m >>> (nI e &&& 31)) &&& 1) = 1 → Q) := by
  rw [bh_bit hm he]
  cases h : m.testBit e
  · exact br_f (by rw [if_neg (by decide)]; decide) (g h)
  · exact br_t (by rw [if_pos rfl]; decide) (f h)
theorem bh_set (m e : Nat) : (fun j => (m ||| 2 ^ e).testBit j) = kc_ins e (fun j => m.testBit j) := by
  funext j
  unfold kc_ins
  rw [Nat.testBit_or, Nat.testBit_two_pow]
  by_cases h : j = e
  · rw [if_pos h, decide_eq_true h.symm, Bool.or_true]
  · rw [if_neg h, decide_eq_false (fun z => h z.symm), Bool.or_false]
theorem bh_setj (m e j : Nat) : (m ||| 2 ^ e).testBit j = (m.testBit j || decide (e = j)) := by
  rw [Nat.testBit_or, Nat.testBit_two_pow]
theorem bh_or_lt {a e k : Nat} (ha : a < 2 ^ k) (he : e < k) : a ||| 2 ^ e < 2 ^ k := Nat.or_lt_two_pow ha (Nat.pow_lt_pow_right (by decide) he)
theorem bh_12 {m e : Nat} (h : m < 4096) (he : 12 ≤ e) : m.testBit e = false := Nat.testBit_lt_two_pow (Nat.lt_of_lt_of_le h (Nat.pow_le_pow_right (n := 2) (by decide) he : 2 ^ 12 ≤ 2 ^ e))
/-- a bit is taken away -/
theorem bh_clr {m e : Nat} (hm : m < 4096) (he : e < 12) : nI m &&& (((1 : Int32) <<< (nI e &&& 31)) ^^^ (-1)) = nI (m &&& (4095 ^^^ 2 ^ e)) := by
  rw [bh_sh (by omega)]
  apply b_ext
  intro i hi
  rw [b_and, b_xor, bh_bt hi, bh_bt hi, bh_bt hi, b_m1 i hi, Nat.testBit_and, Nat.testBit_xor]
  by_cases h12 : i < 12
  · have : (4095 : Nat).testBit i = true := by
      have h : ∀ i, i < 12 → (4095 : Nat).testBit i = true := by decide
      exact h i h12
    rw [this]
    cases (2 ^ e).testBit i <;> rfl
  · rw [bh_12 hm (by omega), Bool.false_and, Bool.false_and]
theorem bh_clrj {m e : Nat} (hm : m < 4096) (j : Nat) : (m &&& (4095 ^^^ 2 ^ e)).testBit j = (m.testBit j && !decide (e = j)) := by
  rw [Nat.testBit_and, Nat.testBit_xor, Nat.testBit_two_pow]
  by_cases h12 : j < 12
  · have h : ∀ i, i < 12 → (4095 : Nat).testBit i = true := by decide
    rw [h j h12]
    cases decide (e = j) <;> rfl
  · rw [bh_12 hm (by omega), Bool.false_and, Bool.false_and]
theorem bh_clr_lt {m x : Nat} (hm : m < 4096) : m &&& x < 4096 := Nat.lt_of_le_of_lt Nat.and_le_left hm
theorem bh_eq {a b : Nat} (ha : a < 4096) (hb : b < 4096) : nI a = nI b ↔ ∀ j, j < 12 → a.testBit j = b.testBit j := by
  rw [nI_eq (by omega) (by omega)]
  constructor
  · intro h j _; rw [h]
  · intro h
    apply Nat.eq_of_testBit_eq
    intro j
    by_cases hj : j < 12
    · exact h j hj
    · rw [bh_12 ha (by omega), bh_12 hb (by omega)]
theorem bh_sub {s m : Nat} (hs : s < 4096) : (nI s &&& (nI m ^^^ (-1))) = 0 ↔ ∀ j, j < 12 → s.testBit j = true → m.testBit j = true := by
  constructor
  · intro h j hj hsj
    have h1 : bt (nI s &&& (nI m ^^^ (-1))) j = false := by rw [h]; exact b_0 j
    rw [b_and, b_xor, bh_bt (by omega), bh_bt (by omega), b_m1 j (by omega), hsj] at h1
    revert h1
    cases m.testBit j <;> decide
  · intro h
    apply b_ext
    intro i hi
    rw [b_and, b_xor, bh_bt hi, bh_bt hi, b_m1 i hi, b_0]
    by_cases h12 : i < 12
    · have := h i h12
      revert this
      cases s.testBit i <;> cases m.testBit i <;> decide
    · rw [bh_12 hs (by omega), Bool.false_and]
theorem bh_and1 {s e : Nat} : s &&& 2 ^ e = if s.testBit e = true then 2 ^ e else 0 := by
  apply Nat.eq_of_testBit_eq
  intro j
  rw [Nat.testBit_and, Nat.testBit_two_pow]
  by_cases h : e = j
  · subst h
    rw [decide_eq_true rfl, Bool.and_true]
    cases hs : s.testBit e
    · rw [if_neg (by decide), Nat.zero_testBit]
    · rw [if_pos rfl, Nat.testBit_two_pow, decide_eq_true rfl]
  · rw [decide_eq_false h, Bool.and_false]
    split
    · rw [Nat.testBit_two_pow, decide_eq_false h]
    · rw [Nat.zero_testBit]
theorem bh_p2 {e : Nat} (he : e < 12) : 2 ^ e < 4096 ∧ 0 < 2 ^ e := ⟨Nat.pow_lt_pow_right (a := 2) (by decide) he, Nat.two_pow_pos e⟩
theorem bh_with {s e : Nat} (he : e < 12) : (nI s &&& ((1 : Int32) <<< (nI e &&& 31))) = ((1 : Int32) <<< (nI e &&& 31)) ↔ s.testBit e = true := by
  have := bh_p2 he
  rw [bh_sh (by omega), nx_and, bh_and1]
  cases h : s.testBit e
  · rw [if_neg (by decide), nI_eq (by omega) (by omega)]
    exact ⟨fun z => by omega, fun z => absurd z (by decide)⟩
  · rw [if_pos rfl]
    exact ⟨fun _ => rfl, fun _ => rfl⟩
theorem bh_wout {s e : Nat} (he : e < 12) : (nI s &&& ((1 : Int32) <<< (nI e &&& 31))) = 0 ↔ s.testBit e = false := by
  have := bh_p2 he
  rw [bh_sh (by omega), nx_and, bh_and1, ← nI_0]
  cases h : s.testBit e
  · rw [if_neg (by decide)]
    exact ⟨fun _ => rfl, fun _ => rfl⟩
  · rw [if_pos rfl, nI_eq (by omega) (by omega)]
    exact ⟨fun z => by omega, fun z => absurd z (by decide)⟩
theorem bh_w0 (x : Int32) : (x &&& 0) = 0 := by
  apply b_ext
  intro i hi
  rw [b_and, b_0, Bool.and_false]
/-- every set of edges is a mask -/
theorem bh_mask (S : Nat → Bool) : ∀ n, ∃ s, s < 2 ^ n ∧ ∀ e, e < n → s.testBit e = S e := by
  intro n
  induction n with
  | zero => exact ⟨0, by decide, fun e he => absurd he (Nat.not_lt_zero e)⟩
  | succ n ih =>
    obtain ⟨s, hs, h⟩ := ih
    have e2 : 2 ^ (n + 1) = 2 ^ n + 2 ^ n := by rw [Nat.pow_succ]; omega
    cases hn : S n
    · refine ⟨s, by omega, fun e he => ?_⟩
      by_cases hen : e = n
      · rw [hen, hn, Nat.testBit_lt_two_pow hs]
      · exact h e (by omega)
    · refine ⟨s ||| 2 ^ n, ?_, fun e he => ?_⟩
      · exact bh_or_lt (Nat.lt_of_lt_of_le hs (by omega)) (by omega)
      · rw [bh_setj]
        by_cases hen : e = n
        · rw [hen, hn, decide_eq_true rfl, Bool.or_true]
        · rw [decide_eq_false (fun z => hen z.symm), Bool.or_false]
          exact h e (by omega)
/-! arrays -/
def ar_N (f : Nat → Nat) : Nat → Int32 := fun e => nI (f e)
def ar_B (O : Nat → Bool) : Nat → Int32 := fun e => if O e = true then 1 else 0
def ar_u (f : Nat → Nat) (k x : Nat) : Nat → Nat := fun j => if j = k then x else f j
theorem ar_u_s {f : Nat → Nat} {k x : Nat} : ar_u f k x k = x := if_pos rfl
theorem ar_u_n {f : Nat → Nat} {k x j : Nat} (h : j ≠ k) : ar_u f k x j = f j := if_neg h
theorem ar_upd (f : Nat → Nat) (k x : Nat) : upd (ar_N f) k (nI x) = ar_N (ar_u f k x) := by
  funext j
  unfold upd ar_N ar_u
  by_cases h : j = k
  · rw [if_pos h, if_pos h]
  · rw [if_neg h, if_neg h]
theorem ar_upd1 (O : Nat → Bool) (k : Nat) : upd (ar_B O) k 1 = ar_B (kc_ins k O) := by
  funext j
  unfold upd ar_B kc_ins
  by_cases h : j = k
  · rw [if_pos h, if_pos h, if_pos rfl]
  · rw [if_neg h, if_neg h]
theorem ar_upd0 (O : Nat → Bool) (k : Nat) : upd (ar_B O) k 0 = ar_B (ex_del O k) := by
  funext j
  unfold upd ar_B ex_del
  by_cases h : j = k
  · rw [if_pos h, if_pos h, if_neg (by decide)]
  · rw [if_neg h, if_neg h]
theorem ar_B0 {O : Nat → Bool} {e : Nat} {P Q : Prop} (f : O e = false → P) (g : O e = true → Q) : (ar_B O e = 0 → P) ∧ (¬ ar_B O e = 0 → Q) := by
  unfold ar_B
  cases h : O e
  · exact br_t (if_neg (by decide)) (f h)
  · exact br_f (by rw [if_pos rfl]; decide) (g h)
theorem ar_nb1 : vp_nar .boolean 1 = 1 := rfl
theorem ar_nb0 : vp_nar .boolean 0 = 0 := rfl
/-! sizes -/
theorem sz_mono {p q : Nat → Bool} : ∀ n, (∀ i, i < n → p i = true → q i = true) → kc_size n p ≤ kc_size n q := by
  intro n
  induction n with
  | zero => intro _; exact Nat.le_refl _
  | succ n ih =>
    intro H
    have h1 := ih (fun i hi => H i (by omega))
    have h2 := H n (by omega)
    simp only [kc_size]
    revert h2
    cases p n <;> cases q n <;> simp <;> omega
theorem sz_strict {p q : Nat → Bool} : ∀ n, (∀ i, i < n → p i = true → q i = true) → (∃ i, i < n ∧ q i = true ∧ p i = false) → kc_size n p + 1 ≤ kc_size n q := by
  intro n
  induction n with
  | zero => intro _ h; obtain ⟨i, hi, _⟩ := h; exact absurd hi (Nat.not_lt_zero i)
  | succ n ih =>
    intro H ⟨i, hi, h1, h2⟩
    have m1 := sz_mono n (fun i hi => H i (by omega))
    simp only [kc_size]
    by_cases hin : i = n
    · rw [← hin, h1, h2, hin]
      simp
      omega
    · have := ih (fun i hi => H i (by omega)) ⟨i, by omega, h1, h2⟩
      have h3 := H n (by omega)
      revert h3
      cases p n <;> cases q n <;> simp <;> omega
theorem sz_le (p : Nat → Bool) : ∀ n, kc_size n p ≤ n := by
  intro n
  induction n with
  | zero => exact Nat.le_refl _
  | succ n ih => simp only [kc_size]; split <;> omega
theorem sz_full {p : Nat → Bool} : ∀ n, n ≤ kc_size n p → ∀ i, i < n → p i = true := by
  intro n
  induction n with
  | zero => intro _ i hi; exact absurd hi (Nat.not_lt_zero i)
  | succ n ih =>
    intro h i hi
    have h1 := sz_le p n
    simp only [kc_size] at h
    cases hn : p n
    · rw [hn] at h; simp at h; omega
    · rw [hn, if_pos rfl] at h
      by_cases hin : i = n
      · rw [hin]; exact hn
      · exact ih (by omega) i (by omega)
theorem sz_ext {p : Nat → Bool} {n : Nat} : ∀ m, n ≤ m → (∀ e, n ≤ e → e < m → p e = false) → kc_size m p = kc_size n p := by
  intro m
  induction m with
  | zero => intro h _; have : n = 0 := by omega
            rw [this]
  | succ m ih =>
    intro h H
    by_cases hm : n = m + 1
    · rw [hm]
    · simp only [kc_size]
      rw [ih (by omega) (fun e h1 h2 => H e h1 (by omega)), H m (by omega) (by omega)]
      rfl
theorem sz_cext {W : Nat → Nat} {p : Nat → Bool} {n : Nat} : ∀ m, n ≤ m → (∀ e, n ≤ e → e < m → p e = false) → ex_cost W m p = ex_cost W n p := by
  intro m
  induction m with
  | zero => intro h _; have : n = 0 := by omega
            rw [this]
  | succ m ih =>
    intro h H
    by_cases hm : n = m + 1
    · rw [hm]
    · simp only [ex_cost]
      rw [ih (by omega) (fun e h1 h2 => H e h1 (by omega)), H m (by omega) (by omega)]
      rfl
end
section
/-! ===== the relation: both sides against one graph ===== -/
def rl_act (n : Nat) (O : Nat → Bool) : Nat → Bool := fun e => decide (e < n) && O e
def rl_G (n : Nat) (U V W : Nat → Nat) : Prop := n ≤ 12 ∧ (∀ e, U e < 7) ∧ (∀ e, V e < 7) ∧ (∀ e, W e ≤ 20) ∧ (∀ e, e < n → U e ≠ V e)
def rl_Tr (n : Nat) (U V : Nat → Nat) (O : Nat → Bool) (S : Nat → Bool) : Prop := ex_Tr (wt_E (rl_act n O) U) (wt_E (rl_act n O) V) 12 S
def rl_ok (n : Nat) (U V : Nat → Nat) (O : Nat → Bool) (tr : Nat → Int32) : Prop := ∀ s, s < 4096 → (rl_Tr n U V O (fun e => s.testBit e) → tr s = 1) ∧ (¬ rl_Tr n U V O (fun e => s.testBit e) → tr s = 0)
def rl_Y (n : Nat) (U V W : Nat → Nat) (O : Nat → Bool) (v : SY) : Prop := ∃ (m : Nat) (kn : Int32) (tr : Nat → Int32), v = (nI n, nI m, kn, ar_N U, ar_N V, ar_N W, tr) ∧ m < 4096 ∧ (∀ e, m.testBit e = rl_act n O e) ∧ (kn = 0 ∨ (kn = 1 ∧ rl_ok n U V O tr))
/-- the least cost of the trees that Q takes -/
def sp_Min (n : Nat) (U V W : Nat → Nat) (O : Nat → Bool) (Q : (Nat → Bool) → Prop) (m : Nat) : Prop := (m = 100000 ∧ ∀ S, rl_Tr n U V O S → ¬ Q S) ∨ (∃ S, rl_Tr n U V O S ∧ Q S ∧ m = ex_cost W 12 S ∧ ∀ R, rl_Tr n U V O R → Q R → ex_cost W 12 S ≤ ex_cost W 12 R)
section
variable {n : Nat} {U V W : Nat → Nat} {O : Nat → Bool}
theorem rl_V (hG : rl_G n U V W) : wt_V U V := fun e _ => ⟨hG.2.1 e, hG.2.2.1 e⟩
theorem rl_E (hG : rl_G n U V W) : ex_Ends (wt_E (rl_act n O) U) (wt_E (rl_act n O) V) 12 := wt_ends (rl_V hG)
theorem rl_Tr_act (hG : rl_G n U V W) {S : Nat → Bool} (h : rl_Tr n U V O S) : ∀ e, e < 12 → S e = true → (e < n ∧ O e = true) := by
  intro e he hs
  have := wt_tree_act (rl_V hG) h e he hs
  unfold rl_act at this
  rw [Bool.and_eq_true, decide_eq_true_eq] at this
  exact this
theorem rl_Tr_congr {S R : Nat → Bool} (h : ∀ e, e < 12 → S e = R e) (hS : rl_Tr n U V O S) : rl_Tr n U V O R := by
  refine ⟨by rw [← kc_size_congr 12 h]; exact hS.1, fun c hc => hS.2 c (fun e he hs => hc e he (by rw [← h e he]; exact hs))⟩
theorem rl_cost (hG : rl_G n U V W) (S : Nat → Bool) : ex_cost W 12 S ≤ 240 := ex_cost_le hG.2.2.2.1 S 12
theorem sp_uniq (hG : rl_G n U V W) {Q : (Nat → Bool) → Prop} {m m' : Nat} (h : sp_Min n U V W O Q m) (h' : sp_Min n U V W O Q m') : m = m' := by
  rcases h with ⟨h1, h2⟩ | ⟨S, h1, h2, h3, h4⟩
  · rcases h' with ⟨h1', _⟩ | ⟨S', h1', h2', _, _⟩
    · rw [h1, h1']
    · exact absurd h2' (h2 S' h1')
  · rcases h' with ⟨_, h2'⟩ | ⟨S', h1', h2', h3', h4'⟩
    · exact absurd h2 (h2' S h1)
    · have a := h4 S' h1' h2'
      have b := h4' S h1 h2
      omega
theorem sp_lt (hG : rl_G n U V W) {Q : (Nat → Bool) → Prop} {m : Nat} (h : sp_Min n U V W O Q m) : m ≤ 100000 ∧ (m = 100000 ∨ m ≤ 240) := by
  rcases h with ⟨h1, _⟩ | ⟨S, _, _, h3, _⟩
  · omega
  · have := rl_cost hG S
    omega
/-- whether a set within the active edges connects -/
theorem rl_conn {S : Nat → Bool} (hn : n ≤ 12) (hS : ∀ e, e < 12 → S e = true → rl_act n O e = true) : ex_Conn (wt_E (rl_act n O) U) (wt_E (rl_act n O) V) 12 S ↔ ex_Conn U V n S := by
  have hSn : ∀ e, e < 12 → S e = true → e < n := by
    intro e he hs
    have := hS e he hs
    unfold rl_act at this
    rw [Bool.and_eq_true, decide_eq_true_eq] at this
    exact this.1
  constructor
  · intro H c hc
    refine H c ((wt_conn_act hS).mpr (fun e he hs => hc e (hSn e he hs) hs))
  · intro H c hc
    have := (wt_conn_act hS).mp hc
    exact H c (fun e he hs => this e (by omega) hs)
end
end
section
/-! ===== the reference's walks: size, connects, workOut ===== -/
section
variable {f_count f_on f_known : Int32} {a_us a_vs a_weights a_tree : Nat → Int32}
theorem yw_size4 {post : Int32 → Prop} {s : Nat} (hs : s < 4096) (hp : post (nI (kc_size 12 (fun e => s.testBit e)))) : ∀ k i, i ≤ 12 → 12 - i < k → wY_size_4 post (nI s) f_count f_on f_known a_us a_vs a_weights a_tree k (nI (kc_size i (fun e => s.testBit e))) (nI i) := by
  intro k
  induction k with
  | zero => intro i _ h; exact absurd h (Nat.not_lt_zero _)
  | succ k ih =>
    intro i hi hk
    refine pk_le 12 i (fun h => ?_) (fun h => ?_)
    · have e : i = 12 := by omega
      subst e
      exact hp
    · refine nm_r (e' := nI (kc_size (i + 1) (fun e => s.testBit e))) (by rw [bh_bit (by omega) (by omega), nI_add]; rfl) (nm_r (nI_1 i) ?_)
      exact ih (i + 1) (by omega) (by omega)
theorem yw_size {post : Int32 → Prop} {s : Nat} (hs : s < 4096) (hp : post (nI (kc_size 12 (fun e => s.testBit e)))) : wpY_size post (f_count, f_on, f_known, a_us, a_vs, a_weights, a_tree) (nI s) :=
  ⟨13, yw_size4 hs hp 13 0 (by omega) (by omega)⟩
end
/-! connects -/
def cp_Snd (U V : Nat → Nat) (n : Nat) (S : Nat → Bool) (R : Nat) : Prop := ∀ c : Nat → Bool, (∀ e, e < n → S e = true → c (U e) = c (V e)) → ∀ v, v < 7 → R.testBit v = true → c v = c 0
def cp_I (U V : Nat → Nat) (n : Nat) (S : Nat → Bool) (R R' e : Nat) : Prop := R' < 128 ∧ (∀ v, v < 7 → R.testBit v = true → R'.testBit v = true) ∧ cp_Snd U V n S R' ∧
  (((∀ v, v < 7 → R'.testBit v = R.testBit v) ∧ ∀ e', e' < e → S e' = true → R.testBit (U e') = R.testBit (V e')) ∨ ∃ v, v < 7 ∧ R'.testBit v = true ∧ R.testBit v = false)
theorem cp_and0 {R u v : Nat} (hR : R < 128) : (nI R &&& nI (2 ^ u ||| 2 ^ v)) = 0 ↔ (R.testBit u = false ∧ R.testBit v = false) := by
  have hle : R &&& (2 ^ u ||| 2 ^ v) ≤ R := Nat.and_le_left
  rw [nx_and, ← nI_0, nI_eq (by omega) (by omega)]
  constructor
  · intro h
    have h1 : ∀ j, (R &&& (2 ^ u ||| 2 ^ v)).testBit j = false := by intro j; rw [h]; exact Nat.zero_testBit j
    have hu := h1 u
    have hv := h1 v
    rw [Nat.testBit_and, Nat.testBit_or, Nat.testBit_two_pow, Nat.testBit_two_pow] at hu hv
    rw [decide_eq_true (show u = u from rfl), Bool.true_or, Bool.and_true] at hu
    rw [decide_eq_true (show v = v from rfl), Bool.or_true, Bool.and_true] at hv
    exact ⟨hu, hv⟩
  · intro ⟨h1, h2⟩
    apply Nat.eq_of_testBit_eq
    intro j
    rw [Nat.testBit_and, Nat.testBit_or, Nat.testBit_two_pow, Nat.testBit_two_pow, Nat.zero_testBit]
    by_cases a : u = j
    · rw [← a, h1, Bool.false_and]
    · by_cases b : v = j
      · rw [← b, h2, Bool.false_and]
      · rw [decide_eq_false a, decide_eq_false b, Bool.or_false, Bool.and_false]
theorem cp_no {U V : Nat → Nat} {n : Nat} {S : Nat → Bool} {R R' e : Nat} (h : cp_I U V n S R R' e) (hx : S e = true → R'.testBit (U e) = R'.testBit (V e)) (hU : U e < 7) (hV : V e < 7) : cp_I U V n S R R' (e + 1) := by
  refine ⟨h.1, h.2.1, h.2.2.1, ?_⟩
  rcases h.2.2.2 with ⟨h1, h2⟩ | h1
  · refine Or.inl ⟨h1, fun e' he' hs => ?_⟩
    by_cases hee : e' = e
    · subst hee
      rw [← h1 _ hU, ← h1 _ hV]
      exact hx hs
    · exact h2 e' (by omega) hs
  · exact Or.inr h1
theorem cp_yes {U V : Nat → Nat} {n : Nat} {S : Nat → Bool} {R R' e : Nat} (h : cp_I U V n S R R' e) (he : e < n) (hs : S e = true) (hU : U e < 7) (hV : V e < 7) (ho : ¬ (R'.testBit (U e) = false ∧ R'.testBit (V e) = false)) : cp_I U V n S R (R' ||| (2 ^ U e ||| 2 ^ V e)) (e + 1) := by
  have tb : ∀ j, (R' ||| (2 ^ U e ||| 2 ^ V e)).testBit j = (R'.testBit j || (decide (U e = j) || decide (V e = j))) := by
    intro j
    rw [Nat.testBit_or, Nat.testBit_or, Nat.testBit_two_pow, Nat.testBit_two_pow]
  by_cases hb : R'.testBit (U e) = true ∧ R'.testBit (V e) = true
  · have same : ∀ j, (R' ||| (2 ^ U e ||| 2 ^ V e)).testBit j = R'.testBit j := by
      intro j
      rw [tb]
      by_cases a : U e = j
      · rw [← a, hb.1]; rfl
      · by_cases b : V e = j
        · rw [← b, hb.2]; rfl
        · rw [decide_eq_false a, decide_eq_false b, Bool.or_false, Bool.or_false]
    have e1 : R' ||| (2 ^ U e ||| 2 ^ V e) = R' := Nat.eq_of_testBit_eq same
    rw [e1]
    exact cp_no h (fun _ => by rw [hb.1, hb.2]) hU hV
  · refine ⟨?_, fun v hv hr => ?_, fun c hc v hv hr => ?_, Or.inr ?_⟩
    · exact Nat.or_lt_two_pow (n := 7) h.1 (Nat.or_lt_two_pow (Nat.pow_lt_pow_right (by decide) hU) (Nat.pow_lt_pow_right (by decide) hV))
    · rw [tb, h.2.1 v hv hr]; rfl
    · have hsn := h.2.2.1 c hc
      have huv := hc e he hs
      have both : c (U e) = c 0 ∧ c (V e) = c 0 := by
        cases hu : R'.testBit (U e)
        · cases hv' : R'.testBit (V e)
          · exact absurd ⟨hu, hv'⟩ ho
          · have := hsn _ hV hv'
            exact ⟨by rw [huv]; exact this, this⟩
        · have := hsn _ hU hu
          exact ⟨this, by rw [← huv]; exact this⟩
      rw [tb] at hr
      by_cases a : U e = v
      · rw [← a]; exact both.1
      · by_cases b : V e = v
        · rw [← b]; exact both.2
        · rw [decide_eq_false a, decide_eq_false b, Bool.or_false, Bool.or_false] at hr
          exact hsn v hv hr
    · rcases h.2.2.2 with ⟨h1, _⟩ | ⟨v, hv, h1, h2⟩
      · cases hu : R'.testBit (U e)
        · refine ⟨U e, hU, ?_, ?_⟩
          · rw [tb, decide_eq_true rfl, Bool.true_or, Bool.or_true]
          · rw [← h1 _ hU]; exact hu
        · have hv' : R'.testBit (V e) = false := by
            cases hv' : R'.testBit (V e)
            · rfl
            · exact absurd ⟨hu, hv'⟩ hb
          refine ⟨V e, hV, ?_, ?_⟩
          · rw [tb, decide_eq_true (show V e = V e from rfl), Bool.or_true, Bool.or_true]
          · rw [← h1 _ hV]; exact hv'
      · exact ⟨v, hv, by rw [tb, h1]; rfl, h2⟩
section
variable {f_on f_known : Int32} {a_weights a_tree : Nat → Int32} {U V : Nat → Nat} {n : Nat}
theorem yw_conn13 {post : Int32 → Prop} {J4 : Int32 → Int32 → Prop} {s p R : Nat} (hn : n ≤ 12) (hU : ∀ e, U e < 7) (hV : ∀ e, V e < 7) (hs : s < 4096) (hJ : ∀ R', cp_I U V n (fun e => s.testBit e) R R' n → J4 (nI R') (nI (p + 1))) : ∀ k e R', e ≤ n → n - e < k → cp_I U V n (fun e => s.testBit e) R R' e → wY_connects_13 post J4 (nI s) (nI p) (nI n) f_on f_known (ar_N U) (ar_N V) a_weights a_tree k (nI R') (nI e) := by
  intro k
  induction k with
  | zero => intro e R' _ h; exact absurd h (Nat.not_lt_zero _)
  | succ k ih =>
    intro e R' he hk hI
    refine pk_le n e (fun h => ?_) (fun h => ?_)
    · have e1 : e = n := by omega
      subst e1
      exact nm_r (nI_1 p) (hJ R' hI)
    · refine ⟨vp_in_nI (by omega) (by omega), vp_in_nI (by omega) (by omega), nm_r (e' := nI (2 ^ U e ||| 2 ^ V e)) ?_ ?_⟩
      · rw [nI_clamp (by omega)]
        show (1 : Int32) <<< (nI (U e) &&& 31) ||| (1 : Int32) <<< (nI (V e) &&& 31) = _
        have h1 := hU e
        have h2 := hV e
        rw [bh_sh (by omega), bh_sh (by omega), bh_or]
      · refine bh_br (by omega) (by omega) (fun hb => ?_) (fun hb => nm_r (nI_1 e) (ih (e + 1) R' (by omega) (by omega) (cp_no hI (fun z => ?_) (hU e) (hV e))))
        · by_cases h0 : R'.testBit (U e) = false ∧ R'.testBit (V e) = false
          · exact br_t ((cp_and0 hI.1).mpr h0) (nm_r (nI_1 e) (ih (e + 1) R' (by omega) (by omega) (cp_no hI (fun _ => by rw [h0.1, h0.2]) (hU e) (hV e))))
          · refine br_f (fun z => h0 ((cp_and0 hI.1).mp z)) (nm_r (bh_or _ _) (nm_r (nI_1 e) ?_))
            exact ih (e + 1) _ (by omega) (by omega) (cp_yes hI h hb (hU e) (hV e) h0)
        · rw [hb] at z
          exact absurd z (by decide)
theorem yw_conn4 {post : Int32 → Prop} {s : Nat} (hn : n ≤ 12) (hU : ∀ e, U e < 7) (hV : ∀ e, V e < 7) (hs : s < 4096) (h1 : ex_Conn U V n (fun e => s.testBit e) → post 1) (h0 : ¬ ex_Conn U V n (fun e => s.testBit e) → post 0) : ∀ k p R, p ≤ 6 → 6 - p < k → R < 128 → R.testBit 0 = true → cp_Snd U V n (fun e => s.testBit e) R → (ex_Conn U V n (fun e => s.testBit e) → p + 1 ≤ kc_size 7 (fun v => R.testBit v)) → wY_connects_4 post (nI s) (nI n) f_on f_known (ar_N U) (ar_N V) a_weights a_tree k (nI R) (nI p) := by
  intro k
  induction k with
  | zero => intro p R _ h; exact absurd h (Nat.not_lt_zero _)
  | succ k ih =>
    intro p R hp hk hR hR0 hS hC
    refine pk_le 6 p (fun h => ?_) (fun h => ?_)
    · have e1 : p = 6 := by omega
      subst e1
      have iff : R = 127 ↔ ex_Conn U V n (fun e => s.testBit e) := by
        constructor
        · intro hr c hc v hv
          refine hS c hc v hv ?_
          rw [hr]
          have h : ∀ i, i < 7 → (127 : Nat).testBit i = true := by decide
          exact h v hv
        · intro hc
          have hf := sz_full 7 (hC hc)
          apply Nat.eq_of_testBit_eq
          intro j
          by_cases hj : j < 7
          · have h : ∀ i, i < 7 → (127 : Nat).testBit i = true := by decide
            rw [h j hj]
            exact hf j hj
          · have p7 : 2 ^ 7 ≤ 2 ^ j := Nat.pow_le_pow_right (by decide) (by omega)
            have p7' : (2 : Nat) ^ 7 = 128 := by decide
            rw [Nat.testBit_lt_two_pow (by omega), Nat.testBit_lt_two_pow (by omega)]
      exact pk_eq R 127 (fun z => h1 (iff.mp z)) (fun z => h0 (fun y => z (iff.mpr y)))
    · refine ⟨n + 1, yw_conn13 (R := R) hn hU hV hs (fun R' hI => ?_) (n + 1) 0 R (by omega) (by omega) ⟨hR, fun _ _ z => z, hS, Or.inl ⟨fun _ _ => rfl, fun e' z => absurd z (Nat.not_lt_zero _)⟩⟩⟩
      refine ih (p + 1) R' (by omega) (by omega) hI.1 (hI.2.1 0 (by omega) hR0) hI.2.2.1 (fun hc => ?_)
      have hCc := hC hc
      rcases hI.2.2.2 with ⟨g1, g2⟩ | g
      · have hall := hc (fun v => R.testBit v) g2
        have e7 : kc_size 7 (fun v => R'.testBit v) = kc_size 7 (fun _ => true) := kc_size_congr 7 (fun v hv => by
          rw [g1 v hv, ← hR0]
          exact hall v hv)
        rw [e7]
        show p + 1 + 1 ≤ 7
        omega
      · have := sz_strict (p := fun v => R.testBit v) (q := fun v => R'.testBit v) 7 hI.2.1 g
        omega
theorem yw_connects {post : Int32 → Prop} {s : Nat} (hn : n ≤ 12) (hU : ∀ e, U e < 7) (hV : ∀ e, V e < 7) (hs : s < 4096) (h1 : ex_Conn U V n (fun e => s.testBit e) → post 1) (h0 : ¬ ex_Conn U V n (fun e => s.testBit e) → post 0) : wpY_connects post (nI n, f_on, f_known, ar_N U, ar_N V, a_weights, a_tree) (nI s) := by
  refine ⟨7, yw_conn4 hn hU hV hs h1 h0 7 0 1 (by omega) (by omega) (by omega) (by decide) (fun c _ v hv hr => ?_) (fun _ => by decide)⟩
  have h : ∀ v, v < 7 → (1 : Nat).testBit v = true → v = 0 := by decide
  rw [h v hv hr]
end
section
variable {f_known : Int32} {U V W : Nat → Nat} {n m : Nat} {O : Nat → Bool}
theorem yw_work15 {post : SY → Prop} (hG : rl_G n U V W) (hm : m < 4096) (hO : ∀ e, m.testBit e = rl_act n O e) (hp : ∀ tr, rl_ok n U V O tr → post (nI n, nI m, f_known, ar_N U, ar_N V, ar_N W, tr)) : ∀ k s tr, s ≤ 4096 → 4096 - s < k → (∀ t, t < s → (rl_Tr n U V O (fun e => t.testBit e) → tr t = 1) ∧ (¬ rl_Tr n U V O (fun e => t.testBit e) → tr t = 0)) → wY_workOut_15 post (nI n) (nI m) f_known k (nI s) (ar_N U) (ar_N V) (ar_N W) tr := by
  intro k
  induction k with
  | zero => intro s tr _ h; exact absurd h (Nat.not_lt_zero _)
  | succ k ih =>
    intro s tr hs hk hI
    refine pk_le 4096 s (fun h => ?_) (fun h => ?_)
    · have e1 : s = 4096 := by omega
      subst e1
      exact hp tr hI
    · have hin : vp_in (nI s) 4096 := vp_in_nI h (by omega)
      have hcl : (nI s).toNatClampNeg = s := nI_clamp (by omega)
      have no : ¬ rl_Tr n U V O (fun e => s.testBit e) → wY_workOut_15 post (nI n) (nI m) f_known k (nI (s + 1)) (ar_N U) (ar_N V) (ar_N W) (upd tr s 0) := by
        intro hT
        refine ih (s + 1) _ (by omega) (by omega) (fun t ht => ?_)
        by_cases hts : t = s
        · subst hts
          exact ⟨fun z => absurd z hT, fun _ => pk_us⟩
        · rw [pk_un hts]
          exact hI t (by omega)
      have yes : rl_Tr n U V O (fun e => s.testBit e) → wY_workOut_15 post (nI n) (nI m) f_known k (nI (s + 1)) (ar_N U) (ar_N V) (ar_N W) (upd tr s 1) := by
        intro hT
        refine ih (s + 1) _ (by omega) (by omega) (fun t ht => ?_)
        by_cases hts : t = s
        · subst hts
          exact ⟨fun _ => pk_us, fun z => absurd hT z⟩
        · rw [pk_un hts]
          exact hI t (by omega)
      by_cases hsub : ∀ j, j < 12 → s.testBit j = true → m.testBit j = true
      · have hsub' : ∀ e, e < 12 → (fun e => s.testBit e) e = true → rl_act n O e = true := fun e he hse => by rw [← hO]; exact hsub e he hse
        refine br_t ((bh_sub h).mpr hsub) (yw_size h ?_)
        have hle := sz_le (fun e => s.testBit e) 12
        refine pk_eq (kc_size 12 (fun e => s.testBit e)) 6 (fun h6 => ?_) (fun h6 => ?_)
        · refine yw_connects hG.1 hG.2.1 hG.2.2.1 h (fun hc => ?_) (fun hc => ?_)
          · refine br_f (by decide) ⟨hin, fun a ea => ?_⟩
            rw [ea, hcl]
            exact nm_r (nI_1 s) (yes ⟨h6, (rl_conn hG.1 hsub').mpr hc⟩)
          · refine br_t rfl ⟨hin, fun a ea => ?_⟩
            rw [ea, hcl]
            exact nm_r (nI_1 s) (no (fun z => hc ((rl_conn hG.1 hsub').mp z.2)))
        · refine ⟨hin, fun a ea => ?_⟩
          rw [ea, hcl]
          exact nm_r (nI_1 s) (no (fun z => h6 z.1))
      · refine br_f (fun z => hsub ((bh_sub h).mp z)) ⟨hin, fun a ea => ?_⟩
        rw [ea, hcl]
        refine nm_r (nI_1 s) (no (fun z => hsub (fun j hj hsj => ?_)))
        have := rl_Tr_act hG z j hj hsj
        rw [hO]
        unfold rl_act
        rw [decide_eq_true this.1, this.2]
        rfl
theorem yw_work {post : SY → Prop} {tr : Nat → Int32} (hG : rl_G n U V W) (hm : m < 4096) (hO : ∀ e, m.testBit e = rl_act n O e) (hk : f_known = 0 ∨ (f_known = 1 ∧ rl_ok n U V O tr)) (hp : ∀ tr, rl_ok n U V O tr → post (nI n, nI m, 1, ar_N U, ar_N V, ar_N W, tr)) : wpY_workOut post (nI n, nI m, f_known, ar_N U, ar_N V, ar_N W, tr) := by
  rcases hk with hk | ⟨hk, ht⟩
  · subst hk
    exact br_t rfl ⟨4097, yw_work15 hG hm hO hp 4097 0 tr (by omega) (by omega) (fun t z => absurd z (Nat.not_lt_zero _))⟩
  · subst hk
    exact br_f (by decide) (hp tr ht)
end
end
section
/-! ===== the reference's walks: costs, least, the questions ===== -/
/-- the least of C over the numbers below N that Q takes, 100000 if there is none -/
def ls_Min (Q : Nat → Prop) (C : Nat → Nat) (N m : Nat) : Prop := m ≤ 100000 ∧ (∀ s, s < N → Q s → m ≤ C s) ∧ (m = 100000 ∨ ∃ s, s < N ∧ Q s ∧ C s = m)
theorem ls_0 {Q : Nat → Prop} {C : Nat → Nat} : ls_Min Q C 0 100000 := ⟨Nat.le_refl _, fun s hs => absurd hs (Nat.not_lt_zero s), Or.inl rfl⟩
theorem ls_no {Q : Nat → Prop} {C : Nat → Nat} {N m : Nat} (h : ls_Min Q C N m) (hQ : ¬ Q N) : ls_Min Q C (N + 1) m := by
  refine ⟨h.1, fun s hs hq => ?_, ?_⟩
  · by_cases e : s = N
    · rw [e] at hq; exact absurd hq hQ
    · exact h.2.1 s (by omega) hq
  · rcases h.2.2 with z | ⟨s, hs, hq, hc⟩
    · exact Or.inl z
    · exact Or.inr ⟨s, by omega, hq, hc⟩
theorem ls_le {Q : Nat → Prop} {C : Nat → Nat} {N m : Nat} (h : ls_Min Q C N m) (hc : m ≤ C N) : ls_Min Q C (N + 1) m := by
  refine ⟨h.1, fun s hs hq => ?_, ?_⟩
  · by_cases e : s = N
    · rw [e]; exact hc
    · exact h.2.1 s (by omega) hq
  · rcases h.2.2 with z | ⟨s, hs, hq, hc⟩
    · exact Or.inl z
    · exact Or.inr ⟨s, by omega, hq, hc⟩
theorem ls_gt {Q : Nat → Prop} {C : Nat → Nat} {N m : Nat} (h : ls_Min Q C N m) (hQ : Q N) (hc : C N < m) : ls_Min Q C (N + 1) (C N) := by
  have h1 := h.1
  refine ⟨by omega, fun s hs hq => ?_, Or.inr ⟨N, by omega, hQ, rfl⟩⟩
  by_cases e : s = N
  · rw [e]; exact Nat.le_refl _
  · have := h.2.1 s (by omega) hq
    omega
section
variable {f_on f_known : Int32} {a_us a_vs a_tree : Nat → Int32} {W : Nat → Nat} {n : Nat}
theorem yw_cost4 {post : Int32 → Prop} {s : Nat} (hn : n ≤ 12) (hs : s < 4096) (hp : post (nI (ex_cost W n (fun e => s.testBit e)))) : ∀ k i, i ≤ n → n - i < k → wY_costOf_4 post (nI s) (nI n) f_on f_known a_us a_vs (ar_N W) a_tree k (nI (ex_cost W i (fun e => s.testBit e))) (nI i) := by
  intro k
  induction k with
  | zero => intro i _ h; exact absurd h (Nat.not_lt_zero _)
  | succ k ih =>
    intro i hi hk
    refine pk_le n i (fun h => ?_) (fun h => ?_)
    · have e : i = n := by omega
      subst e
      exact hp
    · refine bh_br (by omega) (by omega) (fun hb => ⟨vp_in_nI (by omega) (by omega), nm_r (e' := nI (ex_cost W (i + 1) (fun e => s.testBit e))) ?_ (nm_r (nI_1 i) (ih (i + 1) (by omega) (by omega)))⟩) (fun hb => nm_r (nI_1 i) ?_)
      · rw [nI_clamp (by omega)]
        show nI _ + nI (W i) = nI (ex_cost W i _ + _)
        rw [nI_add]
        simp only [hb]
        rfl
      · have := ih (i + 1) (by omega) (by omega)
        have e : ex_cost W (i + 1) (fun e => s.testBit e) = ex_cost W i (fun e => s.testBit e) := by simp only [ex_cost, hb]; rfl
        rw [e] at this
        exact this
theorem yw_cost {post : Int32 → Prop} {s : Nat} (hn : n ≤ 12) (hs : s < 4096) (hp : post (nI (ex_cost W n (fun e => s.testBit e)))) : wpY_costOf post (nI n, f_on, f_known, a_us, a_vs, ar_N W, a_tree) (nI s) :=
  ⟨n + 1, yw_cost4 hn hs hp (n + 1) 0 (by omega) (by omega)⟩
end
section
variable {U V W : Nat → Nat} {n m : Nat} {O : Nat → Bool} {tr : Nat → Int32}
theorem yw_tr0 {s : Nat} {P Q : Prop} (ht : rl_ok n U V O tr) (hs : s < 4096) (f : ¬ rl_Tr n U V O (fun e => s.testBit e) → P) (g : rl_Tr n U V O (fun e => s.testBit e) → Q) : (tr (nI s).toNatClampNeg = 0 → P) ∧ (¬ tr (nI s).toNatClampNeg = 0 → Q) := by
  rw [nI_clamp (by omega)]
  by_cases h : rl_Tr n U V O (fun e => s.testBit e)
  · exact br_f (by rw [(ht s hs).1 h]; decide) (g h)
  · exact br_t ((ht s hs).2 h) (f h)
theorem yw_c12 (hG : rl_G n U V W) {s : Nat} (h : rl_Tr n U V O (fun e => s.testBit e)) : ex_cost W n (fun e => s.testBit e) = ex_cost W 12 (fun e => s.testBit e) := by
  refine (sz_cext 12 hG.1 (fun e h1 h2 => ?_)).symm
  cases hb : s.testBit e
  · rfl
  · have := (rl_Tr_act hG h e h2 hb).1
    omega
/-- the masks' least is the sets' least -/
theorem ls_sp (hG : rl_G n U V W) {Q : (Nat → Bool) → Prop} (hQ : ∀ S R : Nat → Bool, (∀ e, e < 12 → S e = R e) → Q S → Q R) {r : Nat} (h : ls_Min (fun s => rl_Tr n U V O (fun e => s.testBit e) ∧ Q (fun e => s.testBit e)) (fun s => ex_cost W 12 (fun e => s.testBit e)) 4096 r) : sp_Min n U V W O Q r := by
  have conv : ∀ R : Nat → Bool, rl_Tr n U V O R → Q R → ∃ s, s < 4096 ∧ rl_Tr n U V O (fun e => s.testBit e) ∧ Q (fun e => s.testBit e) ∧ ex_cost W 12 (fun e => s.testBit e) = ex_cost W 12 R := by
    intro R h1 h2
    obtain ⟨s, hs, he⟩ := bh_mask R 12
    have he' : ∀ e, e < 12 → R e = (fun e => s.testBit e) e := fun e h => (he e h).symm
    exact ⟨s, hs, rl_Tr_congr he' h1, hQ _ _ he' h2, (ex_cost_congr 12 he').symm⟩
  rcases h.2.2 with z | ⟨s, hs, hq, hc⟩
  · refine Or.inl ⟨z, fun S h1 h2 => ?_⟩
    obtain ⟨s, hs, a, b, c⟩ := conv S h1 h2
    have h3 := h.2.1 s hs ⟨a, b⟩
    have h4 := rl_cost hG (fun e => s.testBit e)
    dsimp only at h3
    omega
  · refine Or.inr ⟨fun e => s.testBit e, hq.1, hq.2, hc.symm, fun R h1 h2 => ?_⟩
    obtain ⟨s', hs', a, b, c⟩ := conv R h1 h2
    have h3 := h.2.1 s' hs' ⟨a, b⟩
    dsimp only at h3 hc
    omega
theorem yw_least10 {post : Int32 → SY → Prop} {x1 x2 : Int32} {PW PO : Nat → Prop} (hG : rl_G n U V W) (ht : rl_ok n U V O tr) (h1 : ∀ s, s < 4096 → ((nI s &&& x1) = x1 ↔ PW s)) (h2 : ∀ s, s < 4096 → ((nI s &&& x2) = 0 ↔ PO s))
    (hp : ∀ r, ls_Min (fun s => rl_Tr n U V O (fun e => s.testBit e) ∧ (PW s ∧ PO s)) (fun s => ex_cost W 12 (fun e => s.testBit e)) 4096 r → post (nI r) (nI n, nI m, 1, ar_N U, ar_N V, ar_N W, tr)) :
    ∀ k s r, s ≤ 4096 → 4096 - s < k → ls_Min (fun s => rl_Tr n U V O (fun e => s.testBit e) ∧ (PW s ∧ PO s)) (fun s => ex_cost W 12 (fun e => s.testBit e)) s r → wY_least_10 post x1 x2 (nI n) (nI m) 1 (ar_N U) (ar_N V) (ar_N W) tr k (nI r) (nI s) := by
  intro k
  induction k with
  | zero => intro s r _ h; exact absurd h (Nat.not_lt_zero _)
  | succ k ih =>
    intro s r hs hk hI
    refine pk_le 4096 s (fun h => ?_) (fun h => ⟨vp_in_nI h (by omega), yw_tr0 ht h (fun hT => ?_) (fun hT => ?_)⟩)
    · have e1 : s = 4096 := by omega
      subst e1
      exact hp r hI
    · exact nm_r (nI_1 s) (ih (s + 1) r (by omega) (by omega) (ls_no hI (fun z => hT z.1)))
    · by_cases hw : PW s
      · refine br_t ((h1 s h).mpr hw) ?_
        by_cases ho : PO s
        · refine br_t ((h2 s h).mpr ho) (yw_cost hG.1 h ?_)
          rw [yw_c12 hG hT]
          have hc := rl_cost hG (fun e => s.testBit e)
          have hr := hI.1
          refine pk_le r (ex_cost W 12 (fun e => s.testBit e)) (fun z => ?_) (fun z => ?_)
          · exact nm_r (nI_1 s) (ih (s + 1) r (by omega) (by omega) (ls_le hI z))
          · exact nm_r (nI_1 s) (ih (s + 1) _ (by omega) (by omega) (ls_gt hI ⟨hT, hw, ho⟩ z))
        · exact br_f (fun z => ho ((h2 s h).mp z)) (nm_r (nI_1 s) (ih (s + 1) r (by omega) (by omega) (ls_no hI (fun z => ho z.2.2))))
      · exact br_f (fun z => hw ((h1 s h).mp z)) (nm_r (nI_1 s) (ih (s + 1) r (by omega) (by omega) (ls_no hI (fun z => hw z.2.1))))
/-- what of the reference's state stays: the graph, and whether the trees are known -/
def ys_K (n : Nat) (U V : Nat → Nat) (O : Nat → Bool) (kn : Int32) (tr : Nat → Int32) : Prop := kn = 0 ∨ (kn = 1 ∧ rl_ok n U V O tr)
theorem yw_least {post : Int32 → SY → Prop} {x1 x2 kn : Int32} {Q : (Nat → Bool) → Prop} (hG : rl_G n U V W) (hm : m < 4096) (hO : ∀ e, m.testBit e = rl_act n O e) (hk : ys_K n U V O kn tr) (h1 : ∀ s, s < 4096 → (((nI s &&& x1) = x1 ∧ (nI s &&& x2) = 0) ↔ Q (fun e => s.testBit e))) (hQ : ∀ S R : Nat → Bool, (∀ e, e < 12 → S e = R e) → Q S → Q R)
    (hp : ∀ r tr, rl_ok n U V O tr → sp_Min n U V W O Q r → post (nI r) (nI n, nI m, 1, ar_N U, ar_N V, ar_N W, tr)) : wpY_least post (nI n, nI m, kn, ar_N U, ar_N V, ar_N W, tr) x1 x2 := by
  refine yw_work hG hm hO hk (fun tr ht => ?_)
  refine ⟨4097, yw_least10 (PW := fun s => (nI s &&& x1) = x1) (PO := fun s => (nI s &&& x2) = 0) hG ht (fun _ _ => Iff.rfl) (fun _ _ => Iff.rfl) (fun r hr => hp r tr ht (ls_sp hG hQ ?_)) 4097 0 100000 (by omega) (by omega) ls_0⟩
  refine ⟨hr.1, fun s hs hq => hr.2.1 s hs ⟨hq.1, (h1 s hs).mpr hq.2⟩, ?_⟩
  rcases hr.2.2 with z | ⟨s, hs, hq, hc⟩
  · exact Or.inl z
  · exact Or.inr ⟨s, hs, ⟨hq.1, (h1 s hs).mp hq.2⟩, hc⟩
theorem yw_least0 {post : Int32 → SY → Prop} {kn : Int32} (hG : rl_G n U V W) (hm : m < 4096) (hO : ∀ e, m.testBit e = rl_act n O e) (hk : ys_K n U V O kn tr)
    (hp : ∀ r tr, rl_ok n U V O tr → sp_Min n U V W O (fun _ => True) r → post (nI r) (nI n, nI m, 1, ar_N U, ar_N V, ar_N W, tr)) : wpY_least post (nI n, nI m, kn, ar_N U, ar_N V, ar_N W, tr) 0 0 :=
  yw_least hG hm hO hk (fun s _ => ⟨fun _ => trivial, fun _ => ⟨bh_w0 _, bh_w0 _⟩⟩) (fun _ _ _ _ => trivial) hp
theorem yw_leastW {post : Int32 → SY → Prop} {kn : Int32} {e : Nat} (he : e < 12) (hG : rl_G n U V W) (hm : m < 4096) (hO : ∀ e, m.testBit e = rl_act n O e) (hk : ys_K n U V O kn tr)
    (hp : ∀ r tr, rl_ok n U V O tr → sp_Min n U V W O (fun S => S e = true) r → post (nI r) (nI n, nI m, 1, ar_N U, ar_N V, ar_N W, tr)) : wpY_least post (nI n, nI m, kn, ar_N U, ar_N V, ar_N W, tr) ((1 : Int32) <<< (nI e &&& 31)) 0 :=
  yw_least (Q := fun S => S e = true) hG hm hO hk (fun s _ => ⟨fun z => (bh_with he).mp z.1, fun z => ⟨(bh_with he).mpr z, bh_w0 _⟩⟩) (fun S R h z => by rw [← h e he]; exact z) hp
theorem yw_leastO {post : Int32 → SY → Prop} {kn : Int32} {e : Nat} (he : e < 12) (hG : rl_G n U V W) (hm : m < 4096) (hO : ∀ e, m.testBit e = rl_act n O e) (hk : ys_K n U V O kn tr)
    (hp : ∀ r tr, rl_ok n U V O tr → sp_Min n U V W O (fun S => S e = false) r → post (nI r) (nI n, nI m, 1, ar_N U, ar_N V, ar_N W, tr)) : wpY_least post (nI n, nI m, kn, ar_N U, ar_N V, ar_N W, tr) 0 ((1 : Int32) <<< (nI e &&& 31)) :=
  yw_least (Q := fun S => S e = false) hG hm hO hk (fun s _ => ⟨fun z => (bh_wout he).mp z.2, fun z => ⟨bh_w0 _, (bh_wout he).mpr z⟩⟩) (fun S R h z => by rw [← h e he]; exact z) hp
end
end
section
/-! ===== the reference's answers ===== -/
def ys_told (r : Nat) : Int32 := if r = 100000 then -5 else nI r
theorem yw_told {post : Int32 → Prop} {v : SY} {r : Nat} (hr : r ≤ 100000) (hp : post (ys_told r)) : wpY_told post v (nI r) := by
  obtain ⟨a, b, c, d, e, f, g⟩ := v
  unfold ys_told at hp
  refine pk_eq r 100000 (fun z => ?_) (fun z => ?_)
  · rw [if_pos z] at hp; exact hp
  · rw [if_neg z] at hp; exact hp
section
variable {U V W : Nat → Nat} {n : Nat} {O : Nat → Bool} {v : SY}
theorem ys_back {m : Nat} {tr : Nat → Int32} (hm : m < 4096) (hO : ∀ e, m.testBit e = rl_act n O e) (ht : rl_ok n U V O tr) : rl_Y n U V W O (nI n, nI m, 1, ar_N U, ar_N V, ar_N W, tr) := ⟨m, 1, tr, rfl, hm, hO, Or.inr ⟨rfl, ht⟩⟩
theorem yq_bad {post : Int32 → Prop} {x : Int32} (hG : rl_G n U V W) (hY : rl_Y n U V W O v) (h0 : (∃ e, e < n ∧ x = nI e) → post 0) (h1 : (x < 0 ∨ nI n ≤ x) → post 1) : wpY_bad post v x := by
  obtain ⟨m, kn, tr, rfl, hm, hO, hk⟩ := hY
  have hn := hG.1
  rcases pk_ix x (n := n) (by omega) with h | h | ⟨j, hj, rfl⟩
  · exact br_t h (h1 (Or.inl h))
  · refine br_c (fun z => h1 (Or.inl z)) (fun _ => br_f (Int32.not_lt.mpr h) (h1 (Or.inr h)))
  · exact br_f (nI_pos (by omega)) (br_t (nI_lt hj (by omega)) (h0 ⟨j, hj, rfl⟩))
theorem yq_cost {post : Int32 → SY → Prop} (hG : rl_G n U V W) (hY : rl_Y n U V W O v) (hp : ∀ m v', sp_Min n U V W O (fun _ => True) m → rl_Y n U V W O v' → post (ys_told m) v') : wpY_cost post v := by
  obtain ⟨m, kn, tr, rfl, hm, hO, hk⟩ := hY
  refine yw_least0 hG hm hO hk (fun r tr' ht hr => ?_)
  exact yw_told (sp_lt hG hr).1 (hp r _ hr (ys_back hm hO ht))
theorem yq_with {post : Int32 → SY → Prop} {e : Nat} (he : e < n) (hG : rl_G n U V W) (hY : rl_Y n U V W O v) (hp : ∀ m v', sp_Min n U V W O (fun S => S e = true) m → rl_Y n U V W O v' → post (ys_told m) v') : wpY_costWith post v (nI e) := by
  have hY' := hY
  obtain ⟨m, kn, tr, rfl, hm, hO, hk⟩ := hY
  have hn := hG.1
  refine br_f (nI_pos (by omega)) (br_t (nI_lt he (by omega)) (br_t rfl ?_))
  refine yw_leastW (by omega) hG hm hO hk (fun r tr' ht hr => ?_)
  exact yw_told (sp_lt hG hr).1 (hp r _ hr (ys_back hm hO ht))
theorem yq_wout {post : Int32 → SY → Prop} {e : Nat} (he : e < n) (hG : rl_G n U V W) (hY : rl_Y n U V W O v) (hp : ∀ m v', sp_Min n U V W O (fun S => S e = false) m → rl_Y n U V W O v' → post (ys_told m) v') : wpY_costWithout post v (nI e) := by
  obtain ⟨m, kn, tr, rfl, hm, hO, hk⟩ := hY
  have hn := hG.1
  refine br_f (nI_pos (by omega)) (br_t (nI_lt he (by omega)) (br_t rfl ?_))
  refine yw_leastO (by omega) hG hm hO hk (fun r tr' ht hr => ?_)
  exact yw_told (sp_lt hG hr).1 (hp r _ hr (ys_back hm hO ht))
def ys_some (m me : Nat) : Int32 := if m < 100000 ∧ me = m then 1 else 0
def ys_all (m mo : Nat) : Int32 := if m < 100000 ∧ m < mo then 1 else 0
def ys_slack (m me mo : Nat) : Int32 := if m < 100000 ∧ me = m then (if mo = 100000 then -6 else nI mo - nI m) else 0
theorem yq_some {post : Int32 → SY → Prop} {e : Nat} (he : e < n) (hG : rl_G n U V W) (hY : rl_Y n U V W O v) (hp : ∀ m me v', sp_Min n U V W O (fun _ => True) m → sp_Min n U V W O (fun S => S e = true) me → rl_Y n U V W O v' → post (ys_some m me) v') : wpY_inSome post v (nI e) := by
  obtain ⟨m, kn, tr, rfl, hm, hO, hk⟩ := hY
  have hn := hG.1
  refine br_f (nI_pos (by omega)) (br_t (nI_lt he (by omega)) (br_t rfl ?_))
  refine yw_least0 hG hm hO hk (fun r tr' ht hr => ?_)
  have hl := (sp_lt hG hr).1
  refine pk_le 100000 r (fun z => ?_) (fun z => ?_)
  · -- no tree at all
    have hno : ∀ S, rl_Tr n U V O S → ¬ (fun _ => True) S := by
      rcases hr with ⟨_, h2⟩ | ⟨S, h1, h2, h3, _⟩
      · exact h2
      · have := rl_cost hG S
        omega
    have h2 : sp_Min n U V W O (fun S => S e = true) 100000 := Or.inl ⟨rfl, fun S hS _ => hno S hS trivial⟩
    have := hp r 100000 _ hr h2 (ys_back hm hO ht)
    unfold ys_some at this
    rw [if_neg (by omega)] at this
    exact this
  · refine yw_leastW (by omega) hG hm hO (Or.inr ⟨rfl, ht⟩) (fun r2 tr2 ht2 hr2 => ?_)
    have hl2 := (sp_lt hG hr2).1
    have := hp r r2 _ hr hr2 (ys_back hm hO ht2)
    unfold ys_some at this
    refine pk_eq r2 r (fun y => ?_) (fun y => ?_)
    · rw [if_pos ⟨z, y⟩] at this; exact this
    · rw [if_neg (fun x => y x.2)] at this; exact this
theorem yq_all {post : Int32 → SY → Prop} {e : Nat} (he : e < n) (hG : rl_G n U V W) (hY : rl_Y n U V W O v) (hp : ∀ m mo v', sp_Min n U V W O (fun _ => True) m → sp_Min n U V W O (fun S => S e = false) mo → rl_Y n U V W O v' → post (ys_all m mo) v') : wpY_inAll post v (nI e) := by
  obtain ⟨m, kn, tr, rfl, hm, hO, hk⟩ := hY
  have hn := hG.1
  refine br_f (nI_pos (by omega)) (br_t (nI_lt he (by omega)) (br_t rfl ?_))
  refine yw_least0 hG hm hO hk (fun r tr' ht hr => ?_)
  have hl := (sp_lt hG hr).1
  refine pk_le 100000 r (fun z => ?_) (fun z => ?_)
  · have hno : ∀ S, rl_Tr n U V O S → ¬ (fun _ => True) S := by
      rcases hr with ⟨_, h2⟩ | ⟨S, h1, h2, h3, _⟩
      · exact h2
      · have := rl_cost hG S
        omega
    have h2 : sp_Min n U V W O (fun S => S e = false) 100000 := Or.inl ⟨rfl, fun S hS _ => hno S hS trivial⟩
    have := hp r 100000 _ hr h2 (ys_back hm hO ht)
    unfold ys_all at this
    rw [if_neg (by omega)] at this
    exact this
  · refine yw_leastO (by omega) hG hm hO (Or.inr ⟨rfl, ht⟩) (fun r2 tr2 ht2 hr2 => ?_)
    have hl2 := (sp_lt hG hr2).1
    have := hp r r2 _ hr hr2 (ys_back hm hO ht2)
    unfold ys_all at this
    refine pk_le r2 r (fun y => ?_) (fun y => ?_)
    · rw [if_neg (by omega)] at this; exact this
    · rw [if_pos ⟨z, y⟩] at this; exact this
theorem yq_slack {post : Int32 → SY → Prop} {e : Nat} (he : e < n) (hG : rl_G n U V W) (hY : rl_Y n U V W O v) (hp : ∀ m me mo v', sp_Min n U V W O (fun _ => True) m → sp_Min n U V W O (fun S => S e = true) me → (me = m → sp_Min n U V W O (fun S => S e = false) mo) → rl_Y n U V W O v' → post (ys_slack m me mo) v') : wpY_slack post v (nI e) := by
  have hY' := hY
  obtain ⟨m, kn, tr, rfl, hm, hO, hk⟩ := hY
  have hn := hG.1
  refine br_f (nI_pos (by omega)) (br_t (nI_lt he (by omega)) (br_t rfl ?_))
  refine yq_some he hG hY' (fun r re v' hr hre hY2 => ?_)
  obtain ⟨m, kn, tr, rfl, hm, hO, hk⟩ := hY2
  by_cases hc : r < 100000 ∧ re = r
  · have e1 : ys_some r re = 1 := if_pos hc
    rw [e1]
    refine br_f (by decide) ?_
    refine yw_leastO (by omega) hG hm hO hk (fun r2 tr2 ht2 hr2 => ?_)
    refine yw_least0 hG hm hO (Or.inr ⟨rfl, ht2⟩) (fun r3 tr3 ht3 hr3 => ?_)
    have h3 := sp_uniq hG hr3 hr
    subst h3
    have hl2 := (sp_lt hG hr2).1
    have := hp r3 re r2 _ hr hre (fun _ => hr2) (ys_back hm hO ht3)
    unfold ys_slack at this
    rw [if_pos hc] at this
    refine pk_eq r2 100000 (fun y => ?_) (fun y => ?_)
    · rw [if_pos y] at this; exact this
    · rw [if_neg y] at this; exact this
  · have e1 : ys_some r re = 0 := if_neg hc
    rw [e1]
    refine br_t rfl ?_
    by_cases hrr : re = r
    · -- then there is no tree
      have h5 : r = 100000 := by have := (sp_lt hG hr).1; omega
      have hno : ∀ S, rl_Tr n U V O S → ¬ (fun _ => True) S := by
        rcases hr with ⟨_, h2⟩ | ⟨S, h1, h2, h3, _⟩
        · exact h2
        · have := rl_cost hG S
          omega
      have := hp r re 100000 _ hr hre (fun _ => Or.inl ⟨rfl, fun S hS _ => hno S hS trivial⟩) ⟨m, kn, tr, rfl, hm, hO, hk⟩
      unfold ys_slack at this
      rw [if_neg hc] at this
      exact this
    · have := hp r re 0 _ hr hre (fun z => absurd z hrr) ⟨m, kn, tr, rfl, hm, hO, hk⟩
      unfold ys_slack at this
      rw [if_neg hc] at this
      exact this
/-! counts -/
theorem yw_trees8 {post : Int32 → SY → Prop} {m : Nat} {tr : Nat → Int32} {p : Nat → Bool} (ht : rl_ok n U V O tr) (hpp : ∀ s, s < 4096 → (p s = true ↔ rl_Tr n U V O (fun e => s.testBit e))) (hp : post (nI (kc_size 4096 p)) (nI n, nI m, 1, ar_N U, ar_N V, ar_N W, tr)) :
    ∀ k s, s ≤ 4096 → 4096 - s < k → wY_trees_8 post (nI n) (nI m) 1 (ar_N U) (ar_N V) (ar_N W) tr k (nI (kc_size s p)) (nI s) := by
  intro k
  induction k with
  | zero => intro s _ h; exact absurd h (Nat.not_lt_zero _)
  | succ k ih =>
    intro s hs hk
    refine pk_le 4096 s (fun h => ?_) (fun h => ⟨vp_in_nI h (by omega), yw_tr0 ht h (fun hT => ?_) (fun hT => ?_)⟩)
    · have e1 : s = 4096 := by omega
      subst e1
      exact hp
    · refine nm_r (nI_1 s) ?_
      have e : kc_size (s + 1) p = kc_size s p := by
        have : ¬ p s = true := fun z => hT ((hpp s h).mp z)
        simp only [kc_size]
        rw [if_neg this, Nat.add_zero]
      rw [← e]
      exact ih (s + 1) (by omega) (by omega)
    · refine nm_r (nI_1 _) (nm_r (nI_1 s) ?_)
      have e : kc_size (s + 1) p = kc_size s p + 1 := by
        simp only [kc_size]
        rw [if_pos ((hpp s h).mpr hT)]
      rw [← e]
      exact ih (s + 1) (by omega) (by omega)
theorem yw_pick (Q : Nat → Prop) : ∃ p : Nat → Bool, ∀ s, p s = true ↔ Q s := by
  refine ⟨fun s => @decide (Q s) (Classical.propDecidable _), fun s => ?_⟩
  exact @decide_eq_true_iff (Q s) (Classical.propDecidable _)
theorem yq_trees {post : Int32 → SY → Prop} (hG : rl_G n U V W) (hY : rl_Y n U V W O v) (hp : ∀ p v', (∀ s, s < 4096 → (p s = true ↔ rl_Tr n U V O (fun e => s.testBit e))) → rl_Y n U V W O v' → post (nI (kc_size 4096 p)) v') : wpY_trees post v := by
  obtain ⟨m, kn, tr, rfl, hm, hO, hk⟩ := hY
  obtain ⟨p, hpp⟩ := yw_pick (fun s => rl_Tr n U V O (fun e => s.testBit e))
  refine yw_work hG hm hO hk (fun tr ht => ?_)
  exact ⟨4097, yw_trees8 ht (fun s _ => hpp s) (hp p _ (fun s _ => hpp s) (ys_back hm hO ht)) 4097 0 (by omega) (by omega)⟩
theorem yw_cheap11 {post : Int32 → SY → Prop} {m b : Nat} {tr : Nat → Int32} {p : Nat → Bool} (hG : rl_G n U V W) (hb : b ≤ 100000) (ht : rl_ok n U V O tr) (hpp : ∀ s, s < 4096 → (p s = true ↔ (rl_Tr n U V O (fun e => s.testBit e) ∧ ex_cost W 12 (fun e => s.testBit e) = b))) (hp : post (nI (kc_size 4096 p)) (nI n, nI m, 1, ar_N U, ar_N V, ar_N W, tr)) :
    ∀ k s, s ≤ 4096 → 4096 - s < k → wY_cheapest_11 post (nI b) (nI n) (nI m) 1 (ar_N U) (ar_N V) (ar_N W) tr k (nI (kc_size s p)) (nI s) := by
  intro k
  induction k with
  | zero => intro s _ h; exact absurd h (Nat.not_lt_zero _)
  | succ k ih =>
    intro s hs hk
    have no : s < 4096 → ¬ p s = true → wY_cheapest_11 post (nI b) (nI n) (nI m) 1 (ar_N U) (ar_N V) (ar_N W) tr k (nI (kc_size s p)) (nI (s + 1)) := by
      intro h hT
      have e : kc_size (s + 1) p = kc_size s p := by
        simp only [kc_size]
        rw [if_neg hT, Nat.add_zero]
      rw [← e]
      exact ih (s + 1) (by omega) (by omega)
    refine pk_le 4096 s (fun h => ?_) (fun h => ⟨vp_in_nI h (by omega), yw_tr0 ht h (fun hT => ?_) (fun hT => ?_)⟩)
    · have e1 : s = 4096 := by omega
      subst e1
      exact hp
    · exact nm_r (nI_1 s) (no h (fun z => hT ((hpp s h).mp z).1))
    · refine yw_cost hG.1 h ?_
      rw [yw_c12 hG hT]
      have hc := rl_cost hG (fun e => s.testBit e)
      refine pk_eq (ex_cost W 12 (fun e => s.testBit e)) b (fun z => ?_) (fun z => ?_)
      · refine nm_r (nI_1 _) (nm_r (nI_1 s) ?_)
        have e : kc_size (s + 1) p = kc_size s p + 1 := by
          simp only [kc_size]
          rw [if_pos ((hpp s h).mpr ⟨hT, z⟩)]
        rw [← e]
        exact ih (s + 1) (by omega) (by omega)
      · exact nm_r (nI_1 s) (no h (fun y => z ((hpp s h).mp y).2))
theorem yq_cheap {post : Int32 → SY → Prop} (hG : rl_G n U V W) (hY : rl_Y n U V W O v) (hp : ∀ b p v', sp_Min n U V W O (fun _ => True) b → (∀ s, s < 4096 → (p s = true ↔ (rl_Tr n U V O (fun e => s.testBit e) ∧ ex_cost W 12 (fun e => s.testBit e) = b))) → rl_Y n U V W O v' → post (nI (kc_size 4096 p)) v') : wpY_cheapest post v := by
  obtain ⟨m, kn, tr, rfl, hm, hO, hk⟩ := hY
  refine yw_least0 hG hm hO hk (fun r tr' ht hr => ?_)
  obtain ⟨p, hpp⟩ := yw_pick (fun s => rl_Tr n U V O (fun e => s.testBit e) ∧ ex_cost W 12 (fun e => s.testBit e) = r)
  exact ⟨4097, yw_cheap11 hG (sp_lt hG hr).1 ht (fun s _ => hpp s) (hp r p _ hr (fun s _ => hpp s) (ys_back hm hO ht)) 4097 0 (by omega) (by omega)⟩
/-! the next cost -/
theorem yw_next12 {post : Int32 → SY → Prop} {m b : Nat} {tr : Nat → Int32} (hG : rl_G n U V W) (hb : b ≤ 100000) (ht : rl_ok n U V O tr)
    (hp : ∀ r, ls_Min (fun s => rl_Tr n U V O (fun e => s.testBit e) ∧ b < ex_cost W 12 (fun e => s.testBit e)) (fun s => ex_cost W 12 (fun e => s.testBit e)) 4096 r → post (ys_told r) (nI n, nI m, 1, ar_N U, ar_N V, ar_N W, tr)) :
    ∀ k s r, s ≤ 4096 → 4096 - s < k → ls_Min (fun s => rl_Tr n U V O (fun e => s.testBit e) ∧ b < ex_cost W 12 (fun e => s.testBit e)) (fun s => ex_cost W 12 (fun e => s.testBit e)) s r → wY_nextCost_12 post (nI b) (nI n) (nI m) 1 (ar_N U) (ar_N V) (ar_N W) tr k (nI r) (nI s) := by
  intro k
  induction k with
  | zero => intro s r _ h; exact absurd h (Nat.not_lt_zero _)
  | succ k ih =>
    intro s r hs hk hI
    refine pk_le 4096 s (fun h => ?_) (fun h => ⟨vp_in_nI h (by omega), yw_tr0 ht h (fun hT => ?_) (fun hT => ?_)⟩)
    · have e1 : s = 4096 := by omega
      subst e1
      exact yw_told hI.1 (hp r hI)
    · exact nm_r (nI_1 s) (ih (s + 1) r (by omega) (by omega) (ls_no hI (fun z => hT z.1)))
    · refine yw_cost hG.1 h ?_
      rw [yw_c12 hG hT]
      have hc := rl_cost hG (fun e => s.testBit e)
      have hr := hI.1
      refine pk_le (ex_cost W 12 (fun e => s.testBit e)) b (fun z => ?_) (fun z => ?_)
      · exact nm_r (nI_1 s) (ih (s + 1) r (by omega) (by omega) (ls_no hI (fun y => by have := y.2; omega)))
      · refine pk_le r (ex_cost W 12 (fun e => s.testBit e)) (fun y => ?_) (fun y => ?_)
        · exact nm_r (nI_1 s) (ih (s + 1) r (by omega) (by omega) (ls_le hI y))
        · exact nm_r (nI_1 s) (ih (s + 1) _ (by omega) (by omega) (ls_gt hI ⟨hT, z⟩ y))
theorem yq_next {post : Int32 → SY → Prop} (hG : rl_G n U V W) (hY : rl_Y n U V W O v) (hp : ∀ b r v', sp_Min n U V W O (fun _ => True) b → sp_Min n U V W O (fun S => b < ex_cost W 12 S) r → rl_Y n U V W O v' → post (ys_told r) v') : wpY_nextCost post v := by
  obtain ⟨m, kn, tr, rfl, hm, hO, hk⟩ := hY
  refine yw_least0 hG hm hO hk (fun b tr' ht hb => ?_)
  refine ⟨4097, yw_next12 hG (sp_lt hG hb).1 ht (fun r hr => hp b r _ hb (ls_sp hG (Q := fun S => b < ex_cost W 12 S) (fun S R h z => ?_) hr) (ys_back hm hO ht)) 4097 0 100000 (by omega) (by omega) ls_0⟩
  (try dsimp only at z ⊢)
  rw [← ex_cost_congr 12 h]
  exact z
/-! the bottleneck -/
def ys_set (n : Nat) (W : Nat → Nat) (O : Nat → Bool) (w : Nat) : Nat → Bool := fun e => rl_act n O e && decide (W e ≤ w)
def ys_bn (n : Nat) (U V W : Nat → Nat) (O : Nat → Bool) (r : Int32) : Prop := (∃ w, w < 21 ∧ r = nI w ∧ ex_Conn U V n (ys_set n W O w) ∧ ∀ w', w' < w → ¬ ex_Conn U V n (ys_set n W O w')) ∨ (r = -5 ∧ ∀ w, w < 21 → ¬ ex_Conn U V n (ys_set n W O w))
theorem ys_bn_uniq {r r' : Int32} (h : ys_bn n U V W O r) (h' : ys_bn n U V W O r') : r = r' := by
  rcases h with ⟨w, h1, h2, h3, h4⟩ | ⟨h1, h2⟩
  · rcases h' with ⟨w', h1', h2', h3', h4'⟩ | ⟨h1', h2'⟩
    · have : w = w' := by
        rcases Nat.lt_trichotomy w w' with z | z | z
        · exact absurd h3 (h4' w z)
        · exact z
        · exact absurd h3' (h4 w' z)
      rw [h2, h2', this]
    · exact absurd h3 (h2' w h1)
  · rcases h' with ⟨w', h1', h2', h3', h4'⟩ | ⟨h1', h2'⟩
    · exact absurd h3' (h2 w' h1')
    · rw [h1, h1']
theorem ys_conn_congr {S R : Nat → Bool} (h : ∀ e, e < n → S e = R e) (hS : ex_Conn U V n S) : ex_Conn U V n R := fun c hc => hS c (fun e he hs => hc e he (by rw [← h e he]; exact hs))
theorem yw_bott12 {post : Int32 → Prop} {J2 : Int32 → Prop} {m w : Nat} {kn : Int32} {tr : Nat → Int32} (hG : rl_G n U V W) (hw : w < 21) (hm : m < 4096) (hO : ∀ e, m.testBit e = rl_act n O e) (hJ : ¬ ex_Conn U V n (ys_set n W O w) → J2 (nI (w + 1))) (hp : ex_Conn U V n (ys_set n W O w) → post (nI w)) :
    ∀ k i s, i ≤ n → n - i < k → s < 4096 → (∀ e, e < 12 → s.testBit e = (decide (e < i) && ys_set n W O w e)) → wY_bottleneck_12 post J2 (nI w) (nI n) (nI m) kn (ar_N U) (ar_N V) (ar_N W) tr k (nI s) (nI i) := by
  have hn := hG.1
  intro k
  induction k with
  | zero => intro i s _ h; exact absurd h (Nat.not_lt_zero _)
  | succ k ih =>
    intro i s hi hk hs hI
    refine pk_le n i (fun h => ?_) (fun h => ?_)
    · have e1 : i = n := by omega
      subst e1
      have cg : ∀ e, e < i → s.testBit e = ys_set i W O w e := fun e he => by rw [hI e (by omega), decide_eq_true he, Bool.true_and]
      refine yw_connects hG.1 hG.2.1 hG.2.2.1 hs (fun hc => ?_) (fun hc => ?_)
      · exact br_f (by decide) (hp (ys_conn_congr cg hc))
      · exact br_t rfl (nm_r (nI_1 w) (hJ (fun z => hc (ys_conn_congr (fun e he => (cg e he).symm) z))))
    · have stay : ys_set n W O w i = false → wY_bottleneck_12 post J2 (nI w) (nI n) (nI m) kn (ar_N U) (ar_N V) (ar_N W) tr k (nI s) (nI (i + 1)) := by
        intro hz
        refine ih (i + 1) s (by omega) (by omega) hs (fun e he => ?_)
        rw [hI e he]
        by_cases hei : e = i
        · rw [hei, hz, Bool.and_false, Bool.and_false]
        · by_cases hl : e < i
          · rw [decide_eq_true hl, decide_eq_true (show e < i + 1 by omega)]
          · rw [decide_eq_false hl, decide_eq_false (show ¬ e < i + 1 by omega)]
      refine bh_br (by omega) (by omega) (fun hb => ⟨vp_in_nI (by omega) (by omega), ?_⟩) (fun hb => nm_r (nI_1 i) (stay ?_))
      · rw [nI_clamp (by omega)]
        have hWi := hG.2.2.2.1 i
        have ha : rl_act n O i = true := by rw [← hO]; exact hb
        refine pk_lt w (W i) (fun z => nm_r (nI_1 i) (stay ?_)) (fun z => ?_)
        · unfold ys_set
          rw [decide_eq_false (show ¬ W i ≤ w by omega), Bool.and_false]
        · refine nm_r (e' := nI (s ||| 2 ^ i)) (by rw [bh_sh (by omega), bh_or]) (nm_r (nI_1 i) ?_)
          refine ih (i + 1) _ (by omega) (by omega) (bh_or_lt (k := 12) hs (by omega)) (fun e he => ?_)
          rw [bh_setj, hI e he]
          by_cases hei : i = e
          · subst hei
            have hset : ys_set n W O w i = true := by
              unfold ys_set
              rw [ha, decide_eq_true z]
              rfl
            rw [hset, decide_eq_true (show i = i from rfl), decide_eq_true (show i < i + 1 by omega), Bool.or_true]
            rfl
          · rw [decide_eq_false hei, Bool.or_false]
            by_cases hl : e < i
            · rw [decide_eq_true hl, decide_eq_true (show e < i + 1 by omega)]
            · rw [decide_eq_false hl, decide_eq_false (show ¬ e < i + 1 by omega)]
      · unfold ys_set
        rw [← hO, hb]
        rfl
theorem yw_bott2 {post : Int32 → Prop} {m : Nat} {kn : Int32} {tr : Nat → Int32} (hG : rl_G n U V W) (hm : m < 4096) (hO : ∀ e, m.testBit e = rl_act n O e) (hp : ∀ r, ys_bn n U V W O r → post r) :
    ∀ k w, w ≤ 21 → 21 - w < k → (∀ w', w' < w → ¬ ex_Conn U V n (ys_set n W O w')) → wY_bottleneck_2 post (nI n) (nI m) kn (ar_N U) (ar_N V) (ar_N W) tr k (nI w) := by
  intro k
  induction k with
  | zero => intro w _ h; exact absurd h (Nat.not_lt_zero _)
  | succ k ih =>
    intro w hw hk hI
    refine pk_le 21 w (fun h => ?_) (fun h => ?_)
    · exact hp _ (Or.inr ⟨rfl, fun w' hw' => hI w' (by omega)⟩)
    · refine ⟨n + 1, yw_bott12 hG h hm hO (fun hc => ?_) (fun hc => hp _ (Or.inl ⟨w, h, rfl, hc, hI⟩)) (n + 1) 0 0 (by omega) (by omega) (by omega) (fun e he => ?_)⟩
      · refine ih (w + 1) (by omega) (by omega) (fun w' hw' => ?_)
        by_cases hww : w' = w
        · rw [hww]; exact hc
        · exact hI w' (by omega)
      · rw [Nat.zero_testBit, decide_eq_false (Nat.not_lt_zero e), Bool.false_and]
theorem yq_bott {post : Int32 → Prop} (hG : rl_G n U V W) (hY : rl_Y n U V W O v) (hp : ∀ r, ys_bn n U V W O r → post r) : wpY_bottleneck post v := by
  obtain ⟨m, kn, tr, rfl, hm, hO, hk⟩ := hY
  exact ⟨22, yw_bott2 hG hm hO hp 22 0 (by omega) (by omega) (fun w' hw' => absurd hw' (Nat.not_lt_zero _))⟩
end
end
section
/-! ===== the component's walks: separate, join, sortEdges ===== -/
section
variable {f_edges f_ready f_connected f_tree f_treeCost : Int32} {a_endU a_endV a_weights a_on a_wayUp a_part a_order a_table : Nat → Int32}
theorem xw_sep2 {post : SX → Prop} (hp : ∀ pt : Nat → Int32, (∀ j, j < 7 → pt j = nI j) → post (f_edges, f_ready, f_connected, f_tree, f_treeCost, a_endU, a_endV, a_weights, a_on, a_wayUp, pt, a_order, a_table)) : ∀ k i pt, i ≤ 7 → 7 - i < k → (∀ j, j < i → pt j = nI j) → wX_separate_2 post f_edges f_ready f_connected f_tree f_treeCost k (nI i) a_endU a_endV a_weights a_on a_wayUp pt a_order a_table := by
  intro k
  induction k with
  | zero => intro i pt _ h; exact absurd h (Nat.not_lt_zero _)
  | succ k ih =>
    intro i pt hi hk hI
    refine pk_le 7 i (fun h => ?_) (fun h => ⟨vp_in_nI h (by omega), fun p' ep => ?_⟩)
    · exact hp pt (fun j hj => hI j (by omega))
    · rw [ep, nI_clamp (by omega)]
      refine nm_r (nI_1 i) (ih (i + 1) _ (by omega) (by omega) (fun j hj => ?_))
      by_cases hji : j = i
      · rw [hji, pk_us]
      · rw [pk_un hji]; exact hI j (by omega)
theorem xw_sep {post : SX → Prop} (hp : ∀ pt : Nat → Int32, (∀ j, j < 7 → pt j = nI j) → post (f_edges, f_ready, f_connected, f_tree, f_treeCost, a_endU, a_endV, a_weights, a_on, a_wayUp, pt, a_order, a_table)) : wpX_separate post (f_edges, f_ready, f_connected, f_tree, f_treeCost, a_endU, a_endV, a_weights, a_on, a_wayUp, a_part, a_order, a_table) :=
  ⟨8, xw_sep2 hp 8 0 a_part (by omega) (by omega) (fun j z => absurd z (Nat.not_lt_zero _))⟩
/-- b's vertices go to a -/
def xj_p (q : Nat → Nat) (a b : Nat) : Nat → Nat := fun v => if q v = b then a else q v
theorem xw_join2 {post : SX → Prop} {q : Nat → Nat} {a b : Nat} (hb : b < 7) (hq : ∀ j, j < 7 → q j < 7) (hp : ∀ pt : Nat → Int32, (∀ j, j < 7 → pt j = nI (xj_p q a b j)) → post (f_edges, f_ready, f_connected, f_tree, f_treeCost, a_endU, a_endV, a_weights, a_on, a_wayUp, pt, a_order, a_table)) : ∀ k i pt, i ≤ 7 → 7 - i < k → (∀ j, j < i → pt j = nI (xj_p q a b j)) → (∀ j, i ≤ j → j < 7 → pt j = nI (q j)) → wX_join_2 post (nI a) (nI b) f_edges f_ready f_connected f_tree f_treeCost k (nI i) a_endU a_endV a_weights a_on a_wayUp pt a_order a_table := by
  intro k
  induction k with
  | zero => intro i pt _ h; exact absurd h (Nat.not_lt_zero _)
  | succ k ih =>
    intro i pt hi hk hI hI2
    refine pk_le 7 i (fun h => ?_) (fun h => ⟨vp_in_nI h (by omega), ?_⟩)
    · exact hp pt (fun j hj => hI j (by omega))
    · rw [nI_clamp (by omega), hI2 i (Nat.le_refl _) h]
      have hqi := hq i h
      refine pk_eq (q i) b (fun z => ⟨vp_in_nI h (by omega), fun p' ep => ?_⟩) (fun z => ?_)
      · rw [ep]
        refine nm_r (nI_1 i) (ih (i + 1) _ (by omega) (by omega) (fun j hj => ?_) (fun j h1 h2 => ?_))
        · by_cases hji : j = i
          · rw [hji, pk_us]; exact congrArg nI (if_pos z).symm
          · rw [pk_un hji]; exact hI j (by omega)
        · rw [pk_un (by omega)]; exact hI2 j (by omega) h2
      · refine nm_r (nI_1 i) (ih (i + 1) _ (by omega) (by omega) (fun j hj => ?_) (fun j h1 h2 => hI2 j (by omega) h2))
        by_cases hji : j = i
        · rw [hji, hI2 i (Nat.le_refl _) h]; exact congrArg nI (if_neg z).symm
        · exact hI j (by omega)
theorem xw_join {post : SX → Prop} {q : Nat → Nat} {a b : Nat} (hb : b < 7) (hq : ∀ j, j < 7 → q j < 7) (hpt : ∀ j, j < 7 → a_part j = nI (q j)) (hp : ∀ pt : Nat → Int32, (∀ j, j < 7 → pt j = nI (xj_p q a b j)) → post (f_edges, f_ready, f_connected, f_tree, f_treeCost, a_endU, a_endV, a_weights, a_on, a_wayUp, pt, a_order, a_table)) : wpX_join post (f_edges, f_ready, f_connected, f_tree, f_treeCost, a_endU, a_endV, a_weights, a_on, a_wayUp, a_part, a_order, a_table) (nI a) (nI b) :=
  ⟨8, xw_join2 hb hq hp 8 0 a_part (by omega) (by omega) (fun j z => absurd z (Nat.not_lt_zero _)) (fun j _ h => hpt j h)⟩
/-- the first n places of od hold the first n edges by weight -/
def so_Ok (W : Nat → Nat) (n : Nat) (od : Nat → Int32) (g : Nat → Nat) : Prop := (∀ i, i < n → od i = nI (g i)) ∧ (∀ i, i < n → g i < n) ∧ (∀ x, x < n → ∃ i, i < n ∧ g i = x) ∧ (∀ i j, i ≤ j → j < n → W (g i) ≤ W (g j))
def so_In (W : Nat → Nat) (e i : Nat) (od : Nat → Int32) (g : Nat → Nat) : Prop := (∀ j, j < i → od j = nI (g j)) ∧ (∀ j, i < j → j ≤ e → od j = nI (g (j - 1))) ∧ (∀ j, i ≤ j → j < e → W e < W (g j))
theorem so_put {W : Nat → Nat} {e i : Nat} {od od0 : Nat → Int32} {g : Nat → Nat} (h0 : so_Ok W e od0 g) (hi : i ≤ e) (h : so_In W e i od g) (hx : ∀ j, j < i → W (g j) ≤ W e) : ∃ g', so_Ok W (e + 1) (upd od i (nI e)) g' := by
  refine ⟨fun j => if j < i then g j else if j = i then e else g (j - 1), fun j hj => ?_, fun j hj => ?_, fun x hx' => ?_, fun j k hjk hk => ?_⟩
  · dsimp only
    by_cases h1 : j < i
    · rw [if_pos h1, pk_un (by omega)]; exact h.1 j h1
    · by_cases h2 : j = i
      · rw [if_neg h1, if_pos h2, h2, pk_us]
      · rw [if_neg h1, if_neg h2, pk_un h2]; exact h.2.1 j (by omega) (by omega)
  · dsimp only
    by_cases h1 : j < i
    · rw [if_pos h1]; have := h0.2.1 j (by omega); omega
    · by_cases h2 : j = i
      · rw [if_neg h1, if_pos h2]; omega
      · rw [if_neg h1, if_neg h2]; have := h0.2.1 (j - 1) (by omega); omega
  · by_cases hxe : x = e
    · refine ⟨i, by omega, ?_⟩
      dsimp only
      rw [if_neg (Nat.lt_irrefl i), if_pos rfl, hxe]
    · obtain ⟨j, hj, hg⟩ := h0.2.2.1 x (by omega)
      by_cases h1 : j < i
      · refine ⟨j, by omega, ?_⟩
        dsimp only
        rw [if_pos h1, hg]
      · refine ⟨j + 1, by omega, ?_⟩
        dsimp only
        rw [if_neg (by omega), if_neg (by omega), Nat.add_sub_cancel, hg]
  · dsimp only
    by_cases h1 : k < i
    · rw [if_pos (show j < i by omega), if_pos h1]
      exact h0.2.2.2 j k hjk (by omega)
    · by_cases h2 : k = i
      · rw [if_neg h1, if_pos h2]
        by_cases h3 : j < i
        · rw [if_pos h3]; exact hx j h3
        · rw [if_neg h3, if_pos (show j = i by omega)]; exact Nat.le_refl _
      · rw [if_neg h1, if_neg h2]
        by_cases h3 : j < i
        · rw [if_pos h3]; exact h0.2.2.2 j (k - 1) (by omega) (by omega)
        · by_cases h4 : j = i
          · rw [if_neg h3, if_pos h4]; exact Nat.le_of_lt (h.2.2 (k - 1) (by omega) (by omega))
          · rw [if_neg h3, if_neg h4]; exact h0.2.2.2 (j - 1) (k - 1) (by omega) (by omega)
theorem xw_sort12 {post : SX → Prop} {J2 : Int32 → (Nat → Int32) → (Nat → Int32) → (Nat → Int32) → (Nat → Int32) → (Nat → Int32) → (Nat → Int32) → (Nat → Int32) → (Nat → Int32) → Prop} {W : Nat → Nat} {e : Nat} {od0 : Nat → Int32} {g : Nat → Nat} (he : e < 12) (hW : ∀ e, W e ≤ 20) (h0 : so_Ok W e od0 g) (hJ : ∀ od g', so_Ok W (e + 1) od g' → J2 (nI (e + 1)) a_endU a_endV (ar_N W) a_on a_wayUp a_part od a_table) :
    ∀ k i od, i ≤ e → i < k → so_In W e i od g → wX_sortEdges_12 post J2 (nI e) f_edges f_ready f_connected f_tree f_treeCost k (nI i) a_endU a_endV (ar_N W) a_on a_wayUp a_part od a_table := by
  intro k
  induction k with
  | zero => intro i od _ h; exact absurd h (Nat.not_lt_zero _)
  | succ k ih =>
    intro i od hi hk hI
    cases i with
    | zero =>
      refine br_t (by rw [nI_0]; decide) ⟨vp_in_nI (by omega) (by omega), fun p' ep => ?_⟩
      rw [ep, nI_clamp (by omega)]
      obtain ⟨g', hg'⟩ := so_put h0 hi hI (fun j z => absurd z (Nat.not_lt_zero _))
      exact nm_r (nI_1 e) (hJ _ g' hg')
    | succ i =>
      have hpr : nI (i + 1) - 1 = nI i := nI_pred i
      have hod : od i = nI (g i) := hI.1 i (by omega)
      have hgi : g i < e := h0.2.1 i (by omega)
      refine br_f (nI_nle (by omega) (by omega)) ?_
      rw [hpr, nI_clamp (show i < 2 ^ 31 by omega), hod, nI_clamp (show g i < 2 ^ 31 by omega), nI_clamp (show e < 2 ^ 31 by omega), nI_clamp (show i + 1 < 2 ^ 31 by omega)]
      have w1 := hW (g i)
      have w2 := hW e
      refine ⟨vp_in_nI (by omega) (by omega), vp_in_nI (by omega) (by omega), vp_in_nI (by omega) (by omega), pk_le (W (g i)) (W e) (fun z => ⟨vp_in_nI (by omega) (by omega), fun p' ep => ?_⟩) (fun z => ⟨vp_in_nI (by omega) (by omega), vp_in_nI (by omega) (by omega), fun p' ep => ?_⟩)⟩
      · rw [ep]
        obtain ⟨g', hg'⟩ := so_put h0 hi hI (fun j hj => Nat.le_trans (h0.2.2.2 j i (by omega) (by omega)) z)
        exact nm_r (nI_1 e) (hJ _ g' hg')
      · rw [ep]
        refine nm_r (pk_m1 i) (ih i _ (by omega) (by omega) ⟨fun j hj => ?_, fun j h1 h2 => ?_, fun j h1 h2 => ?_⟩)
        · rw [pk_un (by omega)]; exact hI.1 j (by omega)
        · by_cases hji : j = i + 1
          · rw [hji, pk_us]; rfl
          · rw [pk_un hji]; exact hI.2.1 j (by omega) h2
        · by_cases hji : j = i
          · rw [hji]; exact z
          · exact hI.2.2 j (by omega) h2
theorem xw_sort2 {post : SX → Prop} {W : Nat → Nat} {n : Nat} (hn : n ≤ 12) (hW : ∀ e, W e ≤ 20) (hp : ∀ od g, so_Ok W n od g → post (nI n, f_ready, f_connected, f_tree, f_treeCost, a_endU, a_endV, ar_N W, a_on, a_wayUp, a_part, od, a_table)) :
    ∀ k e od g, e ≤ n → n - e < k → so_Ok W e od g → wX_sortEdges_2 post (nI n) f_ready f_connected f_tree f_treeCost k (nI e) a_endU a_endV (ar_N W) a_on a_wayUp a_part od a_table := by
  intro k
  induction k with
  | zero => intro e od g _ h; exact absurd h (Nat.not_lt_zero _)
  | succ k ih =>
    intro e od g he hk hI
    refine pk_le n e (fun h => ?_) (fun h => ?_)
    · have e1 : e = n := by omega
      subst e1
      exact hp od g hI
    · refine ⟨e + 1, xw_sort12 (by omega) hW hI (fun od' g' h' => ih (e + 1) od' g' (by omega) (by omega) h') (e + 1) e od (Nat.le_refl _) (by omega) ⟨hI.1, fun j h1 h2 => ?_, fun j h1 h2 => ?_⟩⟩
      · omega
      · omega
theorem xw_sort {post : SX → Prop} {W : Nat → Nat} {n : Nat} (hn : n ≤ 12) (hW : ∀ e, W e ≤ 20) (hp : ∀ od g, so_Ok W n od g → post (nI n, f_ready, f_connected, f_tree, f_treeCost, a_endU, a_endV, ar_N W, a_on, a_wayUp, a_part, od, a_table)) : wpX_sortEdges post (nI n, f_ready, f_connected, f_tree, f_treeCost, a_endU, a_endV, ar_N W, a_on, a_wayUp, a_part, a_order, a_table) :=
  ⟨n + 1, xw_sort2 hn hW hp (n + 1) 0 a_order (fun _ => 0) (by omega) (by omega) ⟨fun i z => absurd z (Nat.not_lt_zero _), fun i z => absurd z (Nat.not_lt_zero _), fun i z => absurd z (Nat.not_lt_zero _), fun i j _ z => absurd z (Nat.not_lt_zero _)⟩⟩
end
end
section
/-! ===== labels under a join; Kruskal's choice, pure ===== -/
def jl_L (U V : Nat → Nat) (D : Nat → Bool) (q : Nat → Nat) : Prop :=
  (∀ v, v < 7 → q v < 7) ∧ (∀ v, v < 7 → q (q v) = q v) ∧ (∀ e, e < 12 → D e = true → q (U e) = q (V e)) ∧
  (∀ c : Nat → Bool, (∀ e, e < 12 → D e = true → c (U e) = c (V e)) → ∀ v, v < 7 → c (q v) = c v)
def jl_fx (q : Nat → Nat) : Nat → Bool := fun v => decide (q v = v)
theorem jl_id {U V : Nat → Nat} {q : Nat → Nat} (h : ∀ v, v < 7 → q v = v) : jl_L U V (fun _ => false) q := by
  refine ⟨fun v hv => by rw [h v hv]; exact hv, fun v hv => by rw [h v hv, h v hv], fun e _ z => absurd (show false = true from z) (by decide), fun c _ v hv => by rw [h v hv]⟩
theorem jl_one : ∀ b, b < 7 → kc_size 7 (fun v => decide (v = b)) = 1 := by decide
theorem jl_mem {U V : Nat → Nat} {D : Nat → Bool} {q : Nat → Nat} (h : jl_L U V D q) {b v : Nat} (hv : v < 7) (hb : q v = b) : q b = b := by rw [← hb]; exact h.2.1 v hv
theorem jl_join {U V : Nat → Nat} {D : Nat → Bool} {q : Nat → Nat} (h : jl_L U V D q) {e : Nat} (he : e < 12) (hU : U e < 7) (hV : V e < 7) (hne : q (U e) ≠ q (V e)) :
    jl_L U V (kc_ins e D) (xj_p q (q (U e)) (q (V e))) ∧ (∀ v, v < 7 → (jl_fx q v = true ↔ (jl_fx (xj_p q (q (U e)) (q (V e))) v = true ∨ v = q (V e)))) ∧ jl_fx (xj_p q (q (U e)) (q (V e))) (q (V e)) = false := by
  generalize ha : q (U e) = a at hne
  generalize hb : q (V e) = b at hne
  have ha7 : a < 7 := by rw [← ha]; exact h.1 _ hU
  have hb7 : b < 7 := by rw [← hb]; exact h.1 _ hV
  have qa : q a = a := jl_mem h hU ha
  have qb : q b = b := jl_mem h hV hb
  have pa : xj_p q a b a = a := by unfold xj_p; rw [if_neg (by rw [qa]; exact hne)]; exact qa
  refine ⟨⟨fun v hv => ?_, fun v hv => ?_, fun f hf hD => ?_, fun c hc v hv => ?_⟩, fun v hv => ?_, ?_⟩
  · unfold xj_p
    split
    · exact ha7
    · exact h.1 v hv
  · by_cases hvb : q v = b
    · have e1 : xj_p q a b v = a := if_pos hvb
      rw [e1, pa]
    · have e1 : xj_p q a b v = q v := if_neg hvb
      rw [e1]
      unfold xj_p
      rw [h.2.1 v hv, if_neg hvb]
  · by_cases hfe : f = e
    · rw [hfe]
      unfold xj_p
      rw [ha, hb, if_neg hne, if_pos rfl]
    · rw [kc_ins_n hfe] at hD
      unfold xj_p
      rw [h.2.2.1 f hf hD]
  · have hcD := h.2.2.2 c (fun f hf hD => hc f hf (by
      by_cases hfe : f = e
      · rw [hfe]; exact kc_ins_s
      · rw [kc_ins_n hfe]; exact hD))
    have hce := hc e he kc_ins_s
    unfold xj_p
    by_cases hvb : q v = b
    · rw [if_pos hvb, ← ha, hcD _ hU, hce, ← hcD _ hV, hb, ← hvb, hcD v hv]
    · rw [if_neg hvb]; exact hcD v hv
  · unfold jl_fx
    rw [decide_eq_true_eq, decide_eq_true_eq]
    by_cases hvb : v = b
    · rw [hvb]; exact ⟨fun _ => Or.inr rfl, fun _ => qb⟩
    · by_cases hqb : q v = b
      · have e1 : xj_p q a b v = a := if_pos hqb
        rw [e1]
        constructor
        · intro z; exact absurd (z.symm.trans hqb) hvb
        · intro z
          rcases z with z | z
          · rw [← z, qa] at hqb; exact absurd hqb hne
          · exact absurd z hvb
      · have e1 : xj_p q a b v = q v := if_neg hqb
        rw [e1]
        exact ⟨fun z => Or.inl z, fun z => z.elim (fun y => y) (fun y => absurd y hvb)⟩
  · unfold jl_fx
    rw [decide_eq_false_iff_not]
    have e1 : xj_p q a b b = a := if_pos qb
    rw [e1]
    exact hne
theorem jl_cnt {U V : Nat → Nat} {D : Nat → Bool} {q : Nat → Nat} (h : jl_L U V D q) {e : Nat} (he : e < 12) (hU : U e < 7) (hV : V e < 7) (hne : q (U e) ≠ q (V e)) : kc_size 7 (jl_fx q) = kc_size 7 (jl_fx (xj_p q (q (U e)) (q (V e)))) + 1 := by
  obtain ⟨_, h2, h3⟩ := jl_join h he hU hV hne
  rw [← jl_one (q (V e)) (h.1 _ hV)]
  refine wt_size_split 7 (fun v hv => ?_)
  rw [decide_eq_true_eq]
  exact ⟨h2 v hv, fun z => by rw [z.2, h3] at z; exact absurd z.1 (by decide)⟩
theorem jl_uniq {p : Nat → Bool} {n a b : Nat} (h : kc_size n p = 1) (ha : a < n) (hb : b < n) (pa : p a = true) (pb : p b = true) : a = b := by
  apply Classical.byContradiction
  intro hne
  have h1 := ex_size_del pa n ha
  have h2 := ex_size0 n (show kc_size n (ex_del p a) = 0 by omega) b hb
  unfold ex_del at h2
  rw [if_neg (fun z => hne z.symm), pb] at h2
  exact absurd h2 (by decide)
theorem sz_ins {S : Nat → Bool} {e n : Nat} (he : e < n) (hs : S e = false) : kc_size n (kc_ins e S) = kc_size n S + 1 := by
  rw [← ex_size_del (S := kc_ins e S) kc_ins_s n he]
  congr 1
  refine kc_size_congr n (fun j _ => ?_)
  unfold ex_del
  by_cases hj : j = e
  · rw [if_pos hj, hj, hs]
  · rw [if_neg hj, kc_ins_n hj]
theorem sz_cins {W : Nat → Nat} {S : Nat → Bool} {e n : Nat} (he : e < n) (hs : S e = false) : ex_cost W n (kc_ins e S) = ex_cost W n S + W e := by
  rw [← ex_cost_del (W := W) (S := kc_ins e S) kc_ins_s n he]
  congr 1
  refine ex_cost_congr n (fun j _ => ?_)
  unfold ex_del
  by_cases hj : j = e
  · rw [if_pos hj, hj, hs]
  · rw [if_neg hj, kc_ins_n hj]
/-- what stands behind i steps of Kruskal's loop -/
def kr_I (n : Nat) (U V W : Nat → Nat) (O : Nat → Bool) (g : Nat → Nat) (i : Nat) (T : Nat → Bool) (q : Nat → Nat) : Prop :=
  (∀ e, T e = true → e < n ∧ O e = true) ∧ jl_L U V T q ∧ kc_size 7 (jl_fx q) + kc_size 12 T = 7 ∧ (∀ e, T e = true → ∃ i', i' < i ∧ g i' = e) ∧
  (∀ i', i' < i → O (g i') = true → T (g i') = false → ∀ c : Nat → Bool, (∀ h, h < 12 → T h = true → W h ≤ W (g i') → c (U h) = c (V h)) → c (U (g i')) = c (V (g i')))
section
variable {n : Nat} {U V W : Nat → Nat} {O : Nat → Bool} {g : Nat → Nat} {i : Nat} {T : Nat → Bool} {q : Nat → Nat}
theorem kr_0 (h : ∀ v, v < 7 → q v = v) : kr_I n U V W O g 0 (fun _ => false) q := by
  refine ⟨fun e z => absurd (show false = true from z) (by decide), jl_id h, ?_, fun e z => absurd (show false = true from z) (by decide), fun i' z => absurd z (Nat.not_lt_zero _)⟩
  have : kc_size 7 (jl_fx q) = kc_size 7 (fun _ => true) := kc_size_congr 7 (fun v hv => decide_eq_true (h v hv))
  rw [this]
  rfl
theorem kr_off (h : kr_I n U V W O g i T q) (ho : O (g i) = false) : kr_I n U V W O g (i + 1) T q := by
  refine ⟨h.1, h.2.1, h.2.2.1, fun e z => ?_, fun i' hi' ho' => ?_⟩
  · obtain ⟨j, hj, e1⟩ := h.2.2.2.1 e z
    exact ⟨j, by omega, e1⟩
  · by_cases hii : i' = i
    · rw [hii, ho] at ho'; exact absurd ho' (by decide)
    · exact h.2.2.2.2 i' (by omega) ho'
theorem kr_same (h : kr_I n U V W O g i T q) (hin : i < n) (hg : ∀ i j, i ≤ j → j < n → W (g i) ≤ W (g j)) (hU : ∀ e, U e < 7) (hV : ∀ e, V e < 7) (he : q (U (g i)) = q (V (g i))) : kr_I n U V W O g (i + 1) T q := by
  refine ⟨h.1, h.2.1, h.2.2.1, fun e z => ?_, fun i' hi' ho' ht' c hc => ?_⟩
  · obtain ⟨j, hj, e1⟩ := h.2.2.2.1 e z
    exact ⟨j, by omega, e1⟩
  · by_cases hii : i' = i
    · subst hii
      have hcT := h.2.1.2.2.2 c (fun f hf hfT => hc f hf hfT (by
        obtain ⟨j, hj, e1⟩ := h.2.2.2.1 f hfT
        rw [← e1]
        exact hg j i' (by omega) hin))
      rw [← hcT _ (hU _), he, hcT _ (hV _)]
    · exact h.2.2.2.2 i' (by omega) ho' ht' c hc
theorem kr_new (h : kr_I n U V W O g i T q) (hn : n ≤ 12) (hgn : g i < n) (hU : ∀ e, U e < 7) (hV : ∀ e, V e < 7) (ho : O (g i) = true) (hne : q (U (g i)) ≠ q (V (g i))) : T (g i) = false ∧ kr_I n U V W O g (i + 1) (kc_ins (g i) T) (xj_p q (q (U (g i))) (q (V (g i)))) := by
  have hTf : T (g i) = false := by
    cases ht : T (g i)
    · rfl
    · exact absurd (h.2.1.2.2.1 (g i) (by omega) ht) hne
  refine ⟨hTf, fun e z => ?_, (jl_join h.2.1 (by omega) (hU _) (hV _) hne).1, ?_, fun e z => ?_, fun i' hi' ho' ht' c hc => ?_⟩
  · by_cases hee : e = g i
    · rw [hee]; exact ⟨hgn, ho⟩
    · rw [kc_ins_n hee] at z; exact h.1 e z
  · have h1 := jl_cnt h.2.1 (show g i < 12 by omega) (hU _) (hV _) hne
    have h2 := sz_ins (n := 12) (show g i < 12 by omega) hTf
    have h3 := h.2.2.1
    omega
  · by_cases hee : e = g i
    · exact ⟨i, by omega, hee.symm⟩
    · rw [kc_ins_n hee] at z
      obtain ⟨j, hj, e1⟩ := h.2.2.2.1 e z
      exact ⟨j, by omega, e1⟩
  · by_cases hii : i' = i
    · rw [hii, kc_ins_s] at ht'; exact absurd ht' (by decide)
    · by_cases hgg : g i' = g i
      · rw [hgg, kc_ins_s] at ht'; exact absurd ht' (by decide)
      · rw [kc_ins_n hgg] at ht'
        refine h.2.2.2.2 i' (by omega) ho' ht' c (fun f hf hfT hw => hc f hf ?_ hw)
        by_cases hfg : f = g i
        · rw [hfg]; exact kc_ins_s
        · rw [kc_ins_n hfg]; exact hfT
theorem kr_actT (h : kr_I n U V W O g i T q) {e : Nat} (ht : T e = true) : rl_act n O e = true := by
  have := h.1 e ht
  unfold rl_act
  rw [decide_eq_true this.1, this.2]
  rfl
/-- six joins: a tree, and no exchange makes it cheaper -/
theorem kr_tree (hG : rl_G n U V W) (h : kr_I n U V W O g n T q) (hs : ∀ x, x < n → ∃ i, i < n ∧ g i = x) (h6 : kc_size 12 T = 6) : rl_Tr n U V O T ∧ ex_Opt (wt_E (rl_act n O) U) (wt_E (rl_act n O) V) 12 W T := by
  have hT : rl_Tr n U V O T := by
    refine ⟨h6, (rl_conn hG.1 (fun e _ z => kr_actT h z)).mpr ?_⟩
    intro c hc v hv
    have hq := h.2.1
    have hcq := hq.2.2.2 c (fun e he hs => hc e (h.1 e hs).1 hs)
    have h1 : kc_size 7 (jl_fx q) = 1 := by have := h.2.2.1; omega
    have e1 : q v = q 0 := jl_uniq h1 (hq.1 v hv) (hq.1 0 (by omega)) (decide_eq_true (hq.2.1 v hv)) (decide_eq_true (hq.2.1 0 (by omega)))
    rw [← hcq v hv, e1, hcq 0 (by omega)]
  refine ⟨hT, ex_kruskal (rl_E hG) hT (fun e he hTe c hc => ?_)⟩
  cases ha : rl_act n O e
  · rw [wt_E_f ha, wt_E_f ha]
  · rw [wt_E_t ha, wt_E_t ha]
    have ha' := ha
    unfold rl_act at ha'
    rw [Bool.and_eq_true, decide_eq_true_eq] at ha'
    obtain ⟨i, hi, e1⟩ := hs e ha'.1
    subst e1
    refine h.2.2.2.2 i hi ha'.2 hTe c (fun f hf hfT hw => ?_)
    have := hc f hf hfT hw
    rw [wt_E_t (kr_actT h hfT), wt_E_t (kr_actT h hfT)] at this
    exact this
/-- fewer: the graph isn't connected -/
theorem kr_none (hG : rl_G n U V W) (h : kr_I n U V W O g n T q) (hs : ∀ x, x < n → ∃ i, i < n ∧ g i = x) (h6 : kc_size 12 T ≠ 6) : ¬ ex_Conn (wt_E (rl_act n O) U) (wt_E (rl_act n O) V) 12 (fun _ => true) := by
  intro hC
  have hq := h.2.1
  have hall := hC (fun v => decide (q v = q 0)) (fun e he _ => by
    cases ha : rl_act n O e
    · rw [wt_E_f ha, wt_E_f ha]
    · rw [wt_E_t ha, wt_E_t ha]
      have ha' := ha
      unfold rl_act at ha'
      rw [Bool.and_eq_true, decide_eq_true_eq] at ha'
      have resp : ∀ f, f < 12 → T f = true → (fun v => decide (q v = q 0)) (U f) = (fun v => decide (q v = q 0)) (V f) := by
        intro f hf hfT
        dsimp only
        rw [hq.2.2.1 f hf hfT]
      cases hT : T e
      · obtain ⟨i, hi, e1⟩ := hs e ha'.1
        subst e1
        exact h.2.2.2.2 i hi ha'.2 hT (fun v => decide (q v = q 0)) (fun f hf hfT _ => resp f hf hfT)
      · exact resp e he hT)
  have e1 : kc_size 7 (jl_fx q) = kc_size 7 (fun v => decide (v = q 0)) := by
    refine kc_size_congr 7 (fun v hv => ?_)
    have := hall v hv
    (try dsimp only at this)
    rw [decide_eq_true (show q 0 = q 0 from rfl)] at this
    have hv0 : q v = q 0 := of_decide_eq_true this
    unfold jl_fx
    rw [hv0]
    by_cases z : v = q 0
    · rw [decide_eq_true z, decide_eq_true z.symm]
    · rw [decide_eq_false z, decide_eq_false (fun y => z y.symm)]
  have e2 := jl_one (q 0) (hq.1 0 (by omega))
  have e3 := h.2.2.1
  omega
end
end
section
/-! ===== the component's walks: buildTree, findWays, prepare ===== -/
section
variable {n : Nat} {U V W : Nat → Nat} {O : Nat → Bool} {f_ready f_connected f_tree f_treeCost : Int32} {a_wayUp a_part a_order a_table : Nat → Int32}
theorem xw_build22 {post : SX → Prop} {g : Nat → Nat} (hG : rl_G n U V W) (hg : so_Ok W n a_order g)
    (hp : ∀ (t : Nat) (q : Nat → Nat) (pt : Nat → Int32), t < 4096 → kr_I n U V W O g n (fun e => t.testBit e) q → (kc_size 12 (fun e => t.testBit e) = 6 → post (nI n, f_ready, 1, nI t, nI (ex_cost W 12 (fun e => t.testBit e)), ar_N U, ar_N V, ar_N W, ar_B O, a_wayUp, pt, a_order, a_table)) ∧ (kc_size 12 (fun e => t.testBit e) ≠ 6 → post (nI n, f_ready, 0, nI t, nI (ex_cost W 12 (fun e => t.testBit e)), ar_N U, ar_N V, ar_N W, ar_B O, a_wayUp, pt, a_order, a_table))) :
    ∀ k i t q pt, i ≤ n → n - i < k → t < 4096 → kr_I n U V W O g i (fun e => t.testBit e) q → (∀ j, j < 7 → pt j = nI (q j)) →
    wX_buildTree_22 post k (nI (kc_size 12 (fun e => t.testBit e))) (nI i) (nI n) f_ready f_connected (nI t) (nI (ex_cost W 12 (fun e => t.testBit e))) (ar_N U) (ar_N V) (ar_N W) (ar_B O) a_wayUp pt a_order a_table := by
  have hn := hG.1
  intro k
  induction k with
  | zero => intro i t q pt _ h; exact absurd h (Nat.not_lt_zero _)
  | succ k ih =>
    intro i t q pt hi hk ht hI hpt
    refine pk_le n i (fun h => ?_) (fun h => ⟨vp_in_nI (by omega) (by omega), nm_r (e' := nI (g i)) ?_ ?_⟩)
    · have e1 : i = n := by omega
      subst e1
      have hle := sz_le (fun e => t.testBit e) 12
      exact pk_eq (kc_size 12 (fun e => t.testBit e)) 6 (hp t q pt ht hI).1 (hp t q pt ht hI).2
    · rw [nI_clamp (by omega)]
      exact hg.1 i h
    · have hgi := hg.2.1 i h
      have hu := hG.2.1 (g i)
      have hv := hG.2.2.1 (g i)
      have q1 := hI.2.1.1 _ hu
      have q2 := hI.2.1.1 _ hv
      rw [nI_clamp (show g i < 2 ^ 31 by omega)]
      refine ⟨vp_in_nI (by omega) (by omega), vp_in_nI hu (by omega), nm_r (e' := nI (q (U (g i)))) (by rw [show ar_N U (g i) = nI (U (g i)) from rfl, nI_clamp (by omega)]; exact hpt _ hu) ⟨vp_in_nI (by omega) (by omega), vp_in_nI hv (by omega), nm_r (e' := nI (q (V (g i)))) (by rw [show ar_N V (g i) = nI (V (g i)) from rfl, nI_clamp (by omega)]; exact hpt _ hv) ⟨vp_in_nI (by omega) (by omega), ?_⟩⟩⟩
      refine ar_B0 (fun ho => ?_) (fun ho => ?_)
      · exact nm_r (nI_1 i) (ih (i + 1) t q pt (by omega) (by omega) ht (kr_off hI ho) hpt)
      · refine pk_eq (q (U (g i))) (q (V (g i))) (fun z => ?_) (fun z => ?_)
        · exact nm_r (nI_1 i) (ih (i + 1) t q pt (by omega) (by omega) ht (kr_same hI h hg.2.2.2 hG.2.1 hG.2.2.1 z) hpt)
        · obtain ⟨hTf, hI'⟩ := kr_new hI hn hgi hG.2.1 hG.2.2.1 ho z
          have hTf' : t.testBit (g i) = false := hTf
          refine xw_join q2 hI.2.1.1 hpt (fun pt' hpt' => ?_)
          refine nm_r (e' := nI (t ||| 2 ^ g i)) (by rw [bh_sh (by omega), bh_or]) ⟨vp_in_nI (by omega) (by omega), nm_r (e' := nI (ex_cost W 12 (fun e => (t ||| 2 ^ g i).testBit e))) ?_ (nm_r (e' := nI (kc_size 12 (fun e => (t ||| 2 ^ g i).testBit e))) ?_ (nm_r (nI_1 i) ?_))⟩
          · rw [bh_set, sz_cins (by omega) hTf', ← nI_add]
            rfl
          · rw [bh_set, sz_ins (by omega) hTf', ← nI_1]
          · refine ih (i + 1) _ _ pt' (by omega) (by omega) (bh_or_lt (k := 12) ht (by omega)) ?_ hpt'
            rw [bh_set]
            exact hI'
theorem xw_build {post : SX → Prop} (hG : rl_G n U V W)
    (hp1 : ∀ (t : Nat) (pt od : Nat → Int32), t < 4096 → rl_Tr n U V O (fun e => t.testBit e) → ex_Opt (wt_E (rl_act n O) U) (wt_E (rl_act n O) V) 12 W (fun e => t.testBit e) → post (nI n, f_ready, 1, nI t, nI (ex_cost W 12 (fun e => t.testBit e)), ar_N U, ar_N V, ar_N W, ar_B O, a_wayUp, pt, od, a_table))
    (hp0 : ∀ (tr tc : Int32) (pt od : Nat → Int32), ¬ ex_Conn (wt_E (rl_act n O) U) (wt_E (rl_act n O) V) 12 (fun _ => true) → post (nI n, f_ready, 0, tr, tc, ar_N U, ar_N V, ar_N W, ar_B O, a_wayUp, pt, od, a_table)) :
    wpX_buildTree post (nI n, f_ready, f_connected, f_tree, f_treeCost, ar_N U, ar_N V, ar_N W, ar_B O, a_wayUp, a_part, a_order, a_table) := by
  unfold wpX_buildTree
  refine xw_sep (fun pt hpt => ?_)
  refine xw_sort hG.1 hG.2.2.2.1 (fun od g hg => ?_)
  have h0 := xw_build22 (post := post) (O := O) (f_ready := f_ready) (f_connected := f_connected) (a_wayUp := a_wayUp) (a_table := a_table) hG hg (fun t q pt ht hI => ⟨fun h6 => ?_, fun h6 => ?_⟩) (n + 1) 0 0 (fun v => v) pt (by omega) (by omega) (by omega) ?_ hpt
  · rw [ms_zero] at h0
    exact ⟨n + 1, h0⟩
  · obtain ⟨h1, h2⟩ := kr_tree hG hI hg.2.2.1 h6
    exact hp1 t pt od ht h1 h2
  · exact hp0 _ _ pt od (kr_none hG hI hg.2.2.1 h6)
  · rw [ms_zero]
    exact kr_0 (fun _ _ => rfl)
/-! extend -/
theorem xw_ext {post : Int32 → SX → Prop} {e M : Nat} (hU : ∀ e, U e < 7) (hV : ∀ e, V e < 7) (he : e < 12) (hM : M < 128)
    (h0 : M.testBit (U e) = M.testBit (V e) → post (nI M) (nI n, f_ready, f_connected, f_tree, f_treeCost, ar_N U, ar_N V, ar_N W, ar_B O, a_wayUp, a_part, a_order, a_table))
    (h1 : M.testBit (U e) = true → M.testBit (V e) = false → post (nI (M ||| 2 ^ V e)) (nI n, f_ready, f_connected, f_tree, f_treeCost, ar_N U, ar_N V, ar_N W, ar_B O, upd a_wayUp (V e) (a_wayUp (U e) ||| nI (2 ^ e)), a_part, a_order, a_table))
    (h2 : M.testBit (U e) = false → M.testBit (V e) = true → post (nI (M ||| 2 ^ U e)) (nI n, f_ready, f_connected, f_tree, f_treeCost, ar_N U, ar_N V, ar_N W, ar_B O, upd a_wayUp (U e) (a_wayUp (V e) ||| nI (2 ^ e)), a_part, a_order, a_table)) :
    wpX_extend post (nI n, f_ready, f_connected, f_tree, f_treeCost, ar_N U, ar_N V, ar_N W, ar_B O, a_wayUp, a_part, a_order, a_table) (nI e) (nI M) := by
  have hu := hU e
  have hv := hV e
  have hin : vp_in (nI e) 12 := vp_in_nI he (by omega)
  have cu : ar_N U (nI e).toNatClampNeg = nI (U e) := by rw [nI_clamp (by omega)]; rfl
  have cv : ar_N V (nI e).toNatClampNeg = nI (V e) := by rw [nI_clamp (by omega)]; rfl
  have s1 : ∀ x, x < 7 → (nI M ||| ((1 : Int32) <<< (nI x &&& 31))) = nI (M ||| 2 ^ x) := fun x hx => by rw [bh_sh (by omega), bh_or]
  unfold wpX_extend
  refine ⟨hin, ?_⟩
  rw [cu]
  refine bh_br (by omega) (by omega) (fun bu => ⟨hin, ?_⟩) (fun bu => ⟨hin, ?_⟩)
  · rw [cv]
    refine bh_br (by omega) (by omega) (fun bv => br_t rfl (h0 (by rw [bu, bv]))) (fun bv => br_f (by decide) (br_f (by decide) ⟨hin, br_f (by decide) ⟨hin, ?_⟩⟩))
    rw [cu, cv]
    refine ⟨vp_in_nI hu (by omega), vp_in_nI hv (by omega), ?_⟩
    rw [s1 _ hv, nI_clamp (by omega), nI_clamp (by omega), bh_sh (by omega)]
    exact nm_e (h1 bu bv)
  · rw [cv]
    refine bh_br (by omega) (by omega) (fun bv => br_f (by decide) (br_t rfl ⟨hin, br_t rfl ⟨hin, ?_⟩⟩)) (fun bv => br_t rfl (h0 (by rw [bu, bv])))
    rw [cu, cv]
    refine ⟨vp_in_nI hv (by omega), vp_in_nI hu (by omega), ?_⟩
    rw [s1 _ hu, nI_clamp (by omega), nI_clamp (by omega), bh_sh (by omega)]
    exact nm_e (h2 bu bv)
end
/-! ways -/
def fw_w (T : Nat → Bool) (X : Nat → Nat → Bool) (wu : Nat → Int32) (v : Nat) : Prop := ∃ m, m < 4096 ∧ wu v = nI m ∧ ∀ f, f < 12 → m.testBit f = (T f && X f v)
def fw_I (U V : Nat → Nat) (T : Nat → Bool) (X : Nat → Nat → Bool) (M : Nat) (wu : Nat → Int32) : Prop := M < 128 ∧ M.testBit 0 = true ∧ ∀ v, v < 7 → M.testBit v = true → (fw_w T X wu v ∧ ∀ f, f < 12 → T f = true → X f v = true → (M.testBit (U f) = true ∧ M.testBit (V f) = true))
def fw_G (U V : Nat → Nat) (T : Nat → Bool) (R M e : Nat) : Prop := (∀ v, v < 7 → R.testBit v = true → M.testBit v = true) ∧ (((∀ v, v < 7 → M.testBit v = R.testBit v) ∧ ∀ e', e' < e → T e' = true → R.testBit (U e') = R.testBit (V e')) ∨ ∃ v, v < 7 ∧ M.testBit v = true ∧ R.testBit v = false)
theorem fw_no {U V : Nat → Nat} {T : Nat → Bool} {R M e : Nat} (h : fw_G U V T R M e) (hU : U e < 7) (hV : V e < 7) (hx : T e = true → M.testBit (U e) = M.testBit (V e)) : fw_G U V T R M (e + 1) := by
  refine ⟨h.1, ?_⟩
  rcases h.2 with ⟨h1, h2⟩ | h1
  · refine Or.inl ⟨h1, fun e' he' hs => ?_⟩
    by_cases hee : e' = e
    · subst hee
      rw [← h1 _ hU, ← h1 _ hV]
      exact hx hs
    · exact h2 e' (by omega) hs
  · exact Or.inr h1
theorem fw_gr {U V : Nat → Nat} {T : Nat → Bool} {R M e x : Nat} (h : fw_G U V T R M e) (hx : x < 7) (hM : M.testBit x = false) : fw_G U V T R (M ||| 2 ^ x) (e + 1) := by
  refine ⟨fun v hv hr => by rw [bh_setj, h.1 v hv hr]; rfl, Or.inr ⟨x, hx, by rw [bh_setj, decide_eq_true rfl, Bool.or_true], ?_⟩⟩
  cases hr : R.testBit x
  · rfl
  · rw [h.1 x hx hr] at hM; exact absurd hM (by decide)
/-- the way of a vertex that is met by the edge e from a vertex that was -/
theorem fw_ext {U V : Nat → Nat} {T : Nat → Bool} {X : Nat → Nat → Bool} {M : Nat} {wu : Nat → Int32} {e a b : Nat} (h : fw_I U V T X M wu) (he : e < 12) (hTe : T e = true) (hab : (U e = a ∧ V e = b) ∨ (U e = b ∧ V e = a)) (ha : a < 7) (hb : b < 7) (ma : M.testBit a = true) (mb : M.testBit b = false)
    (hX : ∀ f, f < 12 → T f = true → (X f a ^^ X f b) = decide (e = f)) : fw_I U V T X (M ||| 2 ^ b) (upd wu b (wu a ||| nI (2 ^ e))) := by
  obtain ⟨⟨m, hm, hw, hbit⟩, hmet⟩ := h.2.2 a ha ma
  have mono : ∀ x, M.testBit x = true → (M ||| 2 ^ b).testBit x = true := fun x hx => by rw [bh_setj, hx]; rfl
  have mbb : (M ||| 2 ^ b).testBit b = true := by rw [bh_setj, decide_eq_true rfl, Bool.or_true]
  have xea : X e a = false := by
    cases hx : X e a
    · rfl
    · have := hmet e he hTe hx
      rcases hab with ⟨h1, h2⟩ | ⟨h1, h2⟩
      · rw [h2] at this; rw [this.2] at mb; exact absurd mb (by decide)
      · rw [h1] at this; rw [this.1] at mb; exact absurd mb (by decide)
  refine ⟨bh_or_lt (k := 7) h.1 hb, mono 0 h.2.1, fun v hv hmv => ?_⟩
  by_cases hvb : v = b
  · subst hvb
    refine ⟨⟨m ||| 2 ^ e, bh_or_lt (k := 12) hm he, by rw [pk_us, hw, bh_or], fun f hf => ?_⟩, fun f hf hTf hxf => ?_⟩
    · rw [bh_setj, hbit f hf]
      cases hTf : T f
      · rw [Bool.false_and, Bool.false_and, Bool.false_or]
        exact decide_eq_false (fun z => by rw [← z, hTe] at hTf; exact absurd hTf (by decide))
      · rw [Bool.true_and, Bool.true_and]
        have hd := hX f hf hTf
        by_cases hef : e = f
        · subst hef
          rw [xea, decide_eq_true rfl] at hd
          rw [xea, decide_eq_true rfl]
          revert hd
          cases X e v <;> decide
        · rw [decide_eq_false hef] at hd ⊢
          rw [Bool.or_false]
          exact ex_bx.mp hd
    · by_cases hef : e = f
      · subst hef
        rcases hab with ⟨h1, h2⟩ | ⟨h1, h2⟩
        · rw [h1, h2]; exact ⟨mono _ ma, mbb⟩
        · rw [h1, h2]; exact ⟨mbb, mono _ ma⟩
      · have hd := hX f hf hTf
        rw [decide_eq_false hef] at hd
        have := hmet f hf hTf (by rw [ex_bx.mp hd]; exact hxf)
        exact ⟨mono _ this.1, mono _ this.2⟩
  · rw [bh_setj, decide_eq_false (fun z => hvb z.symm), Bool.or_false] at hmv
    obtain ⟨⟨m2, hm2, hw2, hb2⟩, hmet2⟩ := h.2.2 v hv hmv
    refine ⟨⟨m2, hm2, by rw [pk_un hvb]; exact hw2, hb2⟩, fun f hf hTf hxf => ?_⟩
    have := hmet2 f hf hTf hxf
    exact ⟨mono _ this.1, mono _ this.2⟩
section
variable {n : Nat} {U V W : Nat → Nat} {O : Nat → Bool} {f_ready f_connected f_treeCost : Int32} {a_wayUp a_part a_order a_table : Nat → Int32} {t : Nat} {X : Nat → Nat → Bool}
theorem xw_inTree {post : Int32 → Prop} {f_edges : Int32} {a_endU a_endV a_weights a_on : Nat → Int32} {e : Nat} (ht : t < 4096) (he : e < 12) (h1 : t.testBit e = true → post 1) (h0 : t.testBit e = false → post 0) : wpX_inTree post (f_edges, f_ready, f_connected, nI t, f_treeCost, a_endU, a_endV, a_weights, a_on, a_wayUp, a_part, a_order, a_table) (nI e) :=
  bh_br (by omega) (by omega) h1 h0
theorem xw_ways19 {post : SX → Prop} {J11 : Int32 → Int32 → Int32 → Int32 → Int32 → Int32 → Int32 → (Nat → Int32) → (Nat → Int32) → (Nat → Int32) → (Nat → Int32) → (Nat → Int32) → (Nat → Int32) → (Nat → Int32) → (Nat → Int32) → Prop} {p R : Nat} (hG : rl_G n U V W) (ht : t < 4096) (hT : rl_Tr n U V O (fun e => t.testBit e)) (hX : ex_Dual (wt_E (rl_act n O) U) (wt_E (rl_act n O) V) 12 (fun e => t.testBit e) X)
    (hJ : ∀ M wu, fw_I U V (fun e => t.testBit e) X M wu → fw_G U V (fun e => t.testBit e) R M n → J11 (nI M) (nI (p + 1)) (nI n) f_ready f_connected (nI t) f_treeCost (ar_N U) (ar_N V) (ar_N W) (ar_B O) wu a_part a_order a_table) :
    ∀ k e M wu, e ≤ n → n - e < k → fw_I U V (fun e => t.testBit e) X M wu → fw_G U V (fun e => t.testBit e) R M e → wX_findWays_19 post J11 (nI p) k (nI M) (nI e) (nI n) f_ready f_connected (nI t) f_treeCost (ar_N U) (ar_N V) (ar_N W) (ar_B O) wu a_part a_order a_table := by
  have hn := hG.1
  intro k
  induction k with
  | zero => intro e M wu _ h; exact absurd h (Nat.not_lt_zero _)
  | succ k ih =>
    intro e M wu he hk hI hg
    have hu := hG.2.1 e
    have hv := hG.2.2.1 e
    refine pk_le n e (fun h => ?_) (fun h => ?_)
    · have e1 : e = n := by omega
      subst e1
      exact nm_r (nI_1 p) (hJ M wu hI hg)
    · refine xw_inTree ht (by omega) (fun hb => ?_) (fun hb => ?_)
      · have hact := wt_tree_act (rl_V hG) hT e (by omega) hb
        have hx : ∀ f, f < 12 → t.testBit f = true → (X f (U e) ^^ X f (V e)) = decide (e = f) := by
          intro f hf hTf
          have := (hX f hf hTf).2 e (by omega) hb
          rw [wt_E_t hact, wt_E_t hact] at this
          exact this
        refine br_f (by decide) (xw_ext hG.2.1 hG.2.2.1 (by omega) hI.1 (fun z => ?_) (fun z1 z2 => ?_) (fun z1 z2 => ?_))
        · exact nm_r (nI_1 e) (ih (e + 1) M wu (by omega) (by omega) hI (fw_no hg hu hv (fun _ => z)))
        · exact nm_r (nI_1 e) (ih (e + 1) _ _ (by omega) (by omega) (fw_ext hI (by omega) hb (Or.inl ⟨rfl, rfl⟩) hu hv z1 z2 hx) (fw_gr hg hv z2))
        · exact nm_r (nI_1 e) (ih (e + 1) _ _ (by omega) (by omega) (fw_ext hI (by omega) hb (Or.inr ⟨rfl, rfl⟩) hv hu z2 z1 (fun f hf hTf => by rw [Bool.xor_comm]; exact hx f hf hTf)) (fw_gr hg hu z1))
      · refine br_t rfl (nm_r (nI_1 e) (ih (e + 1) M wu (by omega) (by omega) hI (fw_no hg hu hv (fun z => ?_))))
        have z' : t.testBit e = true := z
        rw [hb] at z'
        exact absurd z' (by decide)
theorem xw_ways11 {post : SX → Prop} (hG : rl_G n U V W) (ht : t < 4096) (hT : rl_Tr n U V O (fun e => t.testBit e)) (hX : ex_Dual (wt_E (rl_act n O) U) (wt_E (rl_act n O) V) 12 (fun e => t.testBit e) X)
    (hp : ∀ wu, (∀ v, v < 7 → fw_w (fun e => t.testBit e) X wu v) → post (nI n, f_ready, f_connected, nI t, f_treeCost, ar_N U, ar_N V, ar_N W, ar_B O, wu, a_part, a_order, a_table)) :
    ∀ k p M wu, 1 ≤ p → p ≤ 7 → 7 - p < k → fw_I U V (fun e => t.testBit e) X M wu → p ≤ kc_size 7 (fun v => M.testBit v) → wX_findWays_11 post k (nI M) (nI p) (nI n) f_ready f_connected (nI t) f_treeCost (ar_N U) (ar_N V) (ar_N W) (ar_B O) wu a_part a_order a_table := by
  intro k
  induction k with
  | zero => intro p M wu _ _ h; exact absurd h (Nat.not_lt_zero _)
  | succ k ih =>
    intro p M wu hp1 hp7 hk hI hsz
    refine pk_le 7 p (fun h => ?_) (fun h => ?_)
    · have hall := sz_full 7 (show 7 ≤ kc_size 7 (fun v => M.testBit v) by omega)
      exact hp wu (fun v hv => (hI.2.2 v hv (hall v hv)).1)
    · refine ⟨n + 1, xw_ways19 (R := M) hG ht hT hX (fun M' wu' hI' hg' => ?_) (n + 1) 0 M wu (by omega) (by omega) hI ⟨fun _ _ z => z, Or.inl ⟨fun _ _ => rfl, fun e' z => absurd z (Nat.not_lt_zero _)⟩⟩⟩
      refine ih (p + 1) M' wu' (by omega) (by omega) (by omega) hI' ?_
      rcases hg'.2 with ⟨g1, g2⟩ | g
      · have hc := (rl_conn (U := U) (V := V) hG.1 (wt_tree_act (rl_V hG) hT)).mp hT.2
        have hall := hc (fun v => M.testBit v) g2
        have e7 : kc_size 7 (fun v => M'.testBit v) = kc_size 7 (fun _ => true) := kc_size_congr 7 (fun v hv => by
          rw [g1 v hv, ← hI.2.1]
          exact hall v hv)
        rw [e7]
        show p + 1 ≤ 7
        omega
      · have := sz_strict (p := fun v => M.testBit v) (q := fun v => M'.testBit v) 7 hg'.1 g
        omega
theorem xw_ways {post : SX → Prop} (hG : rl_G n U V W) (ht : t < 4096) (hT : rl_Tr n U V O (fun e => t.testBit e)) (hX : ex_Dual (wt_E (rl_act n O) U) (wt_E (rl_act n O) V) 12 (fun e => t.testBit e) X)
    (hp : ∀ wu, (∀ v, v < 7 → fw_w (fun e => t.testBit e) X wu v) → post (nI n, f_ready, f_connected, nI t, f_treeCost, ar_N U, ar_N V, ar_N W, ar_B O, wu, a_part, a_order, a_table)) : wpX_findWays post (nI n, f_ready, f_connected, nI t, f_treeCost, ar_N U, ar_N V, ar_N W, ar_B O, a_wayUp, a_part, a_order, a_table) := by
  refine nm_e ⟨7, xw_ways11 hG ht hT hX hp 7 1 1 _ (by omega) (by omega) (by omega) ⟨by omega, by decide, fun v hv hm => ?_⟩ (by decide)⟩
  have h : ∀ v, v < 7 → (1 : Nat).testBit v = true → v = 0 := by decide
  have h0 := h v hv hm
  subst h0
  refine ⟨⟨0, by omega, by rw [pk_us, nI_0], fun f hf => ?_⟩, fun f hf hTf hxf => ?_⟩
  · rw [Nat.zero_testBit]
    show false = (t.testBit f && X f 0)
    cases hTf : t.testBit f
    · rfl
    · rw [(hX f hf hTf).1]; rfl
  · rw [(hX f hf hTf).1] at hxf; exact absurd hxf (by decide)
end
/-- what prepare leaves -/
def rl_P (n : Nat) (U V W : Nat → Nat) (O : Nat → Bool) (cn tr tc : Int32) (wu : Nat → Int32) : Prop :=
  (cn = 0 ∧ ¬ ex_Conn (wt_E (rl_act n O) U) (wt_E (rl_act n O) V) 12 (fun _ => true)) ∨
  (cn = 1 ∧ ∃ (t : Nat) (X : Nat → Nat → Bool), t < 4096 ∧ tr = nI t ∧ tc = nI (ex_cost W 12 (fun e => t.testBit e)) ∧ rl_Tr n U V O (fun e => t.testBit e) ∧ ex_Opt (wt_E (rl_act n O) U) (wt_E (rl_act n O) V) 12 W (fun e => t.testBit e) ∧ ex_Dual (wt_E (rl_act n O) U) (wt_E (rl_act n O) V) 12 (fun e => t.testBit e) X ∧ ∀ v, v < 7 → fw_w (fun e => t.testBit e) X wu v)
def rl_X (n : Nat) (U V W : Nat → Nat) (O : Nat → Bool) (u : SX) : Prop := ∃ (rd cn tr tc : Int32) (wu pt od tb : Nat → Int32), u = (nI n, rd, cn, tr, tc, ar_N U, ar_N V, ar_N W, ar_B O, wu, pt, od, tb) ∧ (rd = 0 ∨ (rd = 1 ∧ rl_P n U V W O cn tr tc wu))
section
variable {n : Nat} {U V W : Nat → Nat} {O : Nat → Bool} {f_ready f_connected f_tree f_treeCost : Int32} {a_wayUp a_part a_order a_table : Nat → Int32}
theorem xw_prep {post : SX → Prop} (hG : rl_G n U V W) (hr : f_ready = 0 ∨ (f_ready = 1 ∧ rl_P n U V W O f_connected f_tree f_treeCost a_wayUp))
    (hp : ∀ (cn tr tc : Int32) (wu pt od : Nat → Int32), rl_P n U V W O cn tr tc wu → post (nI n, 1, cn, tr, tc, ar_N U, ar_N V, ar_N W, ar_B O, wu, pt, od, a_table)) : wpX_prepare post (nI n, f_ready, f_connected, f_tree, f_treeCost, ar_N U, ar_N V, ar_N W, ar_B O, a_wayUp, a_part, a_order, a_table) := by
  rcases hr with hr | ⟨hr, hP⟩
  · subst hr
    refine br_t rfl (xw_build hG (fun t pt od ht hT hO => ?_) (fun tr tc pt od hC => ?_))
    · obtain ⟨X, hX⟩ := ex_dual (rl_E hG) hT
      refine br_f (by decide) (xw_ways hG ht hT hX (fun wu hwu => ?_))
      exact hp _ _ _ _ _ _ (Or.inr ⟨rfl, t, X, ht, rfl, rfl, hT, hO, hX, hwu⟩)
    · exact br_t rfl (hp _ _ _ _ _ _ (Or.inl ⟨rfl, hC⟩))
  · subst hr
    exact br_f (by decide) (hp _ _ _ _ _ _ hP)
end
end
section
/-! ===== the component's walks: ways, exchanges ===== -/
def cx_C (n : Nat) (U V W : Nat → Nat) (O : Nat → Bool) (t : Nat) (X : Nat → Nat → Bool) (wu : Nat → Int32) : Prop :=
  t < 4096 ∧ rl_Tr n U V O (fun e => t.testBit e) ∧ ex_Opt (wt_E (rl_act n O) U) (wt_E (rl_act n O) V) 12 W (fun e => t.testBit e) ∧ ex_Dual (wt_E (rl_act n O) U) (wt_E (rl_act n O) V) 12 (fun e => t.testBit e) X ∧ ∀ v, v < 7 → fw_w (fun e => t.testBit e) X wu v
def cx_w (U V : Nat → Nat) (t : Nat) (X : Nat → Nat → Bool) (e f : Nat) : Bool := t.testBit f && (X f (U e) ^^ X f (V e))
section
variable {n : Nat} {U V W : Nat → Nat} {O : Nat → Bool} {f_ready f_connected f_treeCost : Int32} {a_wayUp a_part a_order a_table : Nat → Int32} {t : Nat} {X : Nat → Nat → Bool}
theorem cx_act (hG : rl_G n U V W) (hC : cx_C n U V W O t X a_wayUp) {e : Nat} (h : t.testBit e = true) : e < n ∧ O e = true ∧ rl_act n O e = true := by
  have h12 : e < 12 := by
    rcases Nat.lt_or_ge e 12 with z | z
    · exact z
    · rw [bh_12 hC.1 z] at h; exact absurd h (by decide)
  have h1 := rl_Tr_act hG hC.2.1 e h12 h
  exact ⟨h1.1, h1.2, wt_tree_act (rl_V hG) hC.2.1 e h12 h⟩
theorem cx_on {e : Nat} (he : e < n) (ho : O e = true) : rl_act n O e = true := by
  unfold rl_act
  rw [decide_eq_true he, ho]
  rfl
/-- f is on e's way just if it may be exchanged for e -/
theorem cx_way (hG : rl_G n U V W) (hC : cx_C n U V W O t X a_wayUp) {e f : Nat} (he : e < n) (ho : O e = true) (hte : t.testBit e = false) (hf : f < 12) : cx_w U V t X e f = true ↔ (t.testBit f = true ∧ rl_Tr n U V O (ex_g (fun e => t.testBit e) f e)) := by
  have hn := hG.1
  unfold cx_w
  rw [Bool.and_eq_true]
  have ha := cx_on he ho
  constructor
  · intro h
    refine ⟨h.1, (ex_cross (rl_E hG) hC.2.1 hC.2.2.2.1 hf h.1 (show e < 12 by omega) hte).mpr ?_⟩
    rw [wt_E_t ha, wt_E_t ha]
    exact h.2
  · intro h
    have := (ex_cross (rl_E hG) hC.2.1 hC.2.2.2.1 hf h.1 (show e < 12 by omega) hte).mp h.2
    rw [wt_E_t ha, wt_E_t ha] at this
    exact ⟨h.1, this⟩
theorem cx_some (hG : rl_G n U V W) (hC : cx_C n U V W O t X a_wayUp) {e : Nat} (he : e < n) : ∃ f, f < 12 ∧ cx_w U V t X e f = true := by
  obtain ⟨f, hf, h1, _, h2⟩ := ex_kl (rl_E hG) hC.2.1 hC.2.2.2.1 (fun v => decide (v = U e)) (hG.2.1 e) (hG.2.2.1 e) (by
    rw [decide_eq_true rfl, decide_eq_false (fun z => hG.2.2.2.2 e he z.symm)]
    rfl)
  refine ⟨f, hf, ?_⟩
  unfold cx_w
  rw [show t.testBit f = true from h1, h2]
  rfl
theorem xw_wayOf {post : Int32 → Prop} {f_tree : Int32} {e : Nat} (hG : rl_G n U V W) (hC : cx_C n U V W O t X a_wayUp) (he : e < 12) (hp : ∀ w, w < 4096 → (∀ f, f < 12 → w.testBit f = cx_w U V t X e f) → post (nI w)) : wpX_wayOf post (nI n, f_ready, f_connected, f_tree, f_treeCost, ar_N U, ar_N V, ar_N W, ar_B O, a_wayUp, a_part, a_order, a_table) (nI e) := by
  have hu := hG.2.1 e
  have hv := hG.2.2.1 e
  obtain ⟨m1, hm1, hw1, hb1⟩ := hC.2.2.2.2 _ hu
  obtain ⟨m2, hm2, hw2, hb2⟩ := hC.2.2.2.2 _ hv
  have hin : vp_in (nI e) 12 := vp_in_nI he (by omega)
  unfold wpX_wayOf
  dsimp only
  rw [nI_clamp (by omega), show ar_N U e = nI (U e) from rfl, show ar_N V e = nI (V e) from rfl, nI_clamp (by omega), nI_clamp (by omega), hw1, hw2, nx_xor]
  refine ⟨hin, vp_in_nI hu (by omega), hin, vp_in_nI hv (by omega), hp _ (Nat.xor_lt_two_pow (n := 12) hm1 hm2) (fun f hf => ?_)⟩
  rw [Nat.testBit_xor, hb1 f hf, hb2 f hf]
  unfold cx_w
  (try dsimp only)
  cases t.testBit f <;> cases X f (U e) <;> cases X f (V e) <;> rfl
/-! the heaviest on the way -/
def mx_I (P : Nat → Prop) (W : Nat → Nat) (i r : Nat) : Prop := r ≤ 20 ∧ (∀ f, f < i → P f → W f ≤ r) ∧ (r = 0 ∨ ∃ f, f < i ∧ P f ∧ W f = r)
theorem mx_0 {P : Nat → Prop} {W : Nat → Nat} : mx_I P W 0 0 := ⟨by omega, fun f z => absurd z (Nat.not_lt_zero _), Or.inl rfl⟩
theorem mx_no {P : Nat → Prop} {W : Nat → Nat} {i r : Nat} (h : mx_I P W i r) (hx : P i → W i ≤ r) : mx_I P W (i + 1) r := by
  refine ⟨h.1, fun f hf hP => ?_, ?_⟩
  · by_cases e : f = i
    · rw [e] at hP ⊢; exact hx hP
    · exact h.2.1 f (by omega) hP
  · rcases h.2.2 with z | ⟨f, hf, h1, h2⟩
    · exact Or.inl z
    · exact Or.inr ⟨f, by omega, h1, h2⟩
theorem mx_yes {P : Nat → Prop} {W : Nat → Nat} {i r : Nat} (hW : ∀ e, W e ≤ 20) (h : mx_I P W i r) (hP : P i) (hx : r < W i) : mx_I P W (i + 1) (W i) := by
  refine ⟨hW i, fun f hf hPf => ?_, Or.inr ⟨i, by omega, hP, rfl⟩⟩
  by_cases e : f = i
  · rw [e]; exact Nat.le_refl _
  · have := h.2.1 f (by omega) hPf
    omega
theorem xw_with21 {post : Int32 → Prop} {w e : Nat} (hG : rl_G n U V W) (he : e < 12) (hw : w < 4096) (hp : ∀ r, mx_I (fun f => w.testBit f = true) W n r → post (nI (W e) - nI r)) : ∀ k i r, i ≤ n → n - i < k → mx_I (fun f => w.testBit f = true) W i r → wX_extraWith_21 post (nI e) (nI w) (nI n) f_ready f_connected (nI t) f_treeCost (ar_N U) (ar_N V) (ar_N W) (ar_B O) a_wayUp a_part a_order a_table k (nI r) (nI i) := by
  have hn := hG.1
  intro k
  induction k with
  | zero => intro i r _ h; exact absurd h (Nat.not_lt_zero _)
  | succ k ih =>
    intro i r hi hk hI
    refine pk_le n i (fun h => ⟨vp_in_nI he (by omega), ?_⟩) (fun h => ?_)
    · have e1 : i = n := by omega
      subst e1
      rw [nI_clamp (by omega)]
      exact hp r hI
    · refine bh_br (by omega) (by omega) (fun hb => ⟨vp_in_nI (by omega) (by omega), ?_⟩) (fun hb => ?_)
      · rw [nI_clamp (show i < 2 ^ 31 by omega)]
        have h1 := hG.2.2.2.1 i
        have h2 := hI.1
        refine pk_le (W i) r (fun z => ?_) (fun z => ⟨vp_in_nI (by omega) (by omega), ?_⟩)
        · exact nm_r (nI_1 i) (ih (i + 1) r (by omega) (by omega) (mx_no hI (fun _ => z)))
        · exact nm_r (e' := nI (W i)) rfl (nm_r (nI_1 i) (ih (i + 1) (W i) (by omega) (by omega) (mx_yes hG.2.2.2.1 hI hb z)))
      · refine nm_r (nI_1 i) (ih (i + 1) r (by omega) (by omega) (mx_no hI (fun z => ?_)))
        rw [hb] at z
        exact absurd z (by decide)
theorem sp_T (hG : rl_G n U V W) (hC : cx_C n U V W O t X a_wayUp) {Q : (Nat → Bool) → Prop} (hQ : Q (fun e => t.testBit e)) : sp_Min n U V W O Q (ex_cost W 12 (fun e => t.testBit e)) :=
  Or.inr ⟨_, hC.2.1, hQ, rfl, fun R hR _ => ex_mn (rl_E hG) hC.2.1 hC.2.2.1 hR⟩
theorem xw_with {post : Int32 → Prop} {e : Nat} (hG : rl_G n U V W) (hC : cx_C n U V W O t X a_wayUp) (he : e < n) (ho : O e = true) (hp : ∀ d, d ≤ 20 → sp_Min n U V W O (fun S => S e = true) (ex_cost W 12 (fun e => t.testBit e) + d) → post (nI d)) : wpX_extraWith post (nI n, f_ready, f_connected, nI t, f_treeCost, ar_N U, ar_N V, ar_N W, ar_B O, a_wayUp, a_part, a_order, a_table) (nI e) := by
  have hn := hG.1
  unfold wpX_extraWith
  refine xw_inTree (e := e) hC.1 (by omega) (fun hb => ?_) (fun hb => ?_)
  · exact br_f (by decide) (hp 0 (by omega) (sp_T hG hC hb))
  · refine br_t rfl (xw_wayOf hG hC (by omega) (fun w hw hwb => ⟨n + 1, xw_with21 hG (by omega) hw (fun r hr => ?_) (n + 1) 0 0 (by omega) (by omega) mx_0⟩))
    have wy : ∀ f, f < 12 → (w.testBit f = true ↔ (t.testBit f = true ∧ rl_Tr n U V O (ex_g (fun e => t.testBit e) f e))) := fun f hf => by rw [hwb f hf]; exact cx_way hG hC he ho hb hf
    have wn : ∀ f, f < 12 → w.testBit f = true → f < n := fun f hf z => (cx_act hG hC ((wy f hf).mp z).1).1
    have hex : ∃ f, f < n ∧ w.testBit f = true ∧ W f = r := by
      rcases hr.2.2 with z | z
      · obtain ⟨f, hf, h1⟩ := cx_some hG hC he
        rw [← hwb f hf] at h1
        have h2 := wn f hf h1
        have h3 := hr.2.1 f h2 h1
        exact ⟨f, h2, h1, by omega⟩
      · exact z
    obtain ⟨f, hf, h1, h2⟩ := hex
    obtain ⟨h3, h4⟩ := (wy f (by omega)).mp h1
    have hle : r ≤ W e := by
      rw [← h2]
      exact hC.2.2.1 e f (by omega) (by omega) hb h3 h4
    have hWe := hG.2.2.2.1 e
    rw [pk_sub hle]
    refine hp (W e - r) (by omega) (Or.inr ⟨ex_g (fun e => t.testBit e) f e, h4, if_pos rfl, ?_, fun R hR hRe => ?_⟩)
    · have := ex_cost_g (W := W) (S := fun e => t.testBit e) (f := f) (e := e) h3 hb 12 (by omega) (by omega)
      omega
    · have c1 := ex_cost_g (W := W) (S := fun e => t.testBit e) (f := f) (e := e) h3 hb 12 (by omega) (by omega)
      obtain ⟨f', g1, g2, g3, g4⟩ := ex_with (rl_E hG) hC.2.1 hC.2.2.1 hR (show e < 12 by omega) hb hRe
      have g5 := (wy f' g1).mpr ⟨g2, g3⟩
      have g6 := hr.2.1 f' (wn f' g1 g5) g5
      omega
/-! the lightest in place of an edge -/
def mn_I (P : Nat → Prop) (D : Nat → Nat) (i r : Nat) : Prop := (∀ f, f < i → P f → r ≤ D f) ∧ ((r = 1000000) ∨ (r ≤ 20 ∧ ∃ f, f < i ∧ P f ∧ D f = r))
theorem mn_0 {P : Nat → Prop} {D : Nat → Nat} : mn_I P D 0 1000000 := ⟨fun f z => absurd z (Nat.not_lt_zero _), Or.inl rfl⟩
theorem mn_no {P : Nat → Prop} {D : Nat → Nat} {i r : Nat} (h : mn_I P D i r) (hx : P i → r ≤ D i) : mn_I P D (i + 1) r := by
  refine ⟨fun f hf hP => ?_, ?_⟩
  · by_cases e : f = i
    · rw [e] at hP ⊢; exact hx hP
    · exact h.1 f (by omega) hP
  · rcases h.2 with z | ⟨z, f, hf, h1, h2⟩
    · exact Or.inl z
    · exact Or.inr ⟨z, f, by omega, h1, h2⟩
theorem mn_yes {P : Nat → Prop} {D : Nat → Nat} {i r : Nat} (h : mn_I P D i r) (hP : P i) (hD : D i ≤ 20) (hx : D i < r) : mn_I P D (i + 1) (D i) := by
  refine ⟨fun f hf hPf => ?_, Or.inr ⟨hD, i, by omega, hP, rfl⟩⟩
  by_cases e : f = i
  · rw [e]; exact Nat.le_refl _
  · have := h.1 f (by omega) hPf
    omega
theorem mn_le {P : Nat → Prop} {D : Nat → Nat} {i r : Nat} (h : mn_I P D i r) : r ≤ 1000000 := by
  rcases h.2 with z | ⟨z, _⟩ <;> omega
def cx_o (U V : Nat → Nat) (O : Nat → Bool) (t : Nat) (X : Nat → Nat → Bool) (e f : Nat) : Prop := O f = true ∧ t.testBit f = false ∧ cx_w U V t X f e = true
theorem xw_out15 {post : Int32 → Prop} {e : Nat} (hG : rl_G n U V W) (hC : cx_C n U V W O t X a_wayUp) (he : e < n) (hte : t.testBit e = true) (hp : ∀ r, mn_I (cx_o U V O t X e) (fun f => W f - W e) n r → post (nI r)) : ∀ k i r, i ≤ n → n - i < k → mn_I (cx_o U V O t X e) (fun f => W f - W e) i r → wX_extraWithout_15 post (nI e) (nI n) f_ready f_connected (nI t) f_treeCost (ar_N U) (ar_N V) (ar_N W) (ar_B O) a_wayUp a_part a_order a_table k (nI r) (nI i) := by
  have hn := hG.1
  intro k
  induction k with
  | zero => intro i r _ h; exact absurd h (Nat.not_lt_zero _)
  | succ k ih =>
    intro i r hi hk hI
    refine pk_le n i (fun h => ?_) (fun h => ⟨vp_in_nI (by omega) (by omega), ?_⟩)
    · have e1 : i = n := by omega
      subst e1
      exact hp r hI
    · rw [nI_clamp (show i < 2 ^ 31 by omega), nI_clamp (show e < 2 ^ 31 by omega)]
      refine ar_B0 (fun ho => ?_) (fun ho => ?_)
      · refine nm_r (nI_1 i) (ih (i + 1) r (by omega) (by omega) (mn_no hI (fun z => ?_)))
        have z1 := z.1
        rw [ho] at z1
        exact absurd z1 (by decide)
      · refine xw_inTree hC.1 (by omega) (fun hb => ?_) (fun hb => ?_)
        · refine br_f (by decide) (nm_r (nI_1 i) (ih (i + 1) r (by omega) (by omega) (mn_no hI (fun z => ?_))))
          have z1 := z.2.1
          rw [hb] at z1
          exact absurd z1 (by decide)
        · refine br_t rfl (xw_wayOf hG hC (by omega) (fun w hw hwb => bh_br (by omega) (by omega) (fun hx => ?_) (fun hx => ?_)))
          · rw [hwb e (by omega)] at hx
            have hle : W e ≤ W i := by
              have := (cx_way hG hC h ho hb (show e < 12 by omega)).mp hx
              exact hC.2.2.1 i e (by omega) (by omega) hb hte this.2
            have hWi := hG.2.2.2.1 i
            have hr := mn_le hI
            have es : nI (W i) - nI (W e) = nI (W i - W e) := pk_sub hle
            refine ⟨vp_in_nI (by omega) (by omega), vp_in_nI (by omega) (by omega), ?_⟩
            rw [show ar_N W i = nI (W i) from rfl, show ar_N W e = nI (W e) from rfl, es]
            refine pk_le r (W i - W e) (fun z => ?_) (fun z => ⟨vp_in_nI (by omega) (by omega), vp_in_nI (by omega) (by omega), nm_e (nm_r (nI_1 i) ?_)⟩)
            · exact nm_r (nI_1 i) (ih (i + 1) r (by omega) (by omega) (mn_no hI (fun _ => z)))
            · exact ih (i + 1) _ (by omega) (by omega) (mn_yes (D := fun f => W f - W e) hI ⟨ho, hb, hx⟩ (by (try dsimp only); omega) z)
          · refine nm_r (nI_1 i) (ih (i + 1) r (by omega) (by omega) (mn_no hI (fun z => ?_)))
            rw [hwb e (by omega), z.2.2] at hx
            exact absurd hx (by decide)
/-- without an edge: FAR, or what it costs beyond -/
def cx_x (m mo : Nat) (x : Int32) : Prop := (mo = 100000 ∧ x = 1000000) ∨ ∃ d, d ≤ 20 ∧ mo = m + d ∧ x = nI d
theorem xw_out {post : Int32 → Prop} {e : Nat} (hG : rl_G n U V W) (hC : cx_C n U V W O t X a_wayUp) (he : e < n) (hp : ∀ mo x, sp_Min n U V W O (fun S => S e = false) mo → cx_x (ex_cost W 12 (fun e => t.testBit e)) mo x → post x) : wpX_extraWithout post (nI n, f_ready, f_connected, nI t, f_treeCost, ar_N U, ar_N V, ar_N W, ar_B O, a_wayUp, a_part, a_order, a_table) (nI e) := by
  have hn := hG.1
  unfold wpX_extraWithout
  refine xw_inTree (e := e) hC.1 (by omega) (fun hb => ?_) (fun hb => ?_)
  · refine br_f (by decide) ⟨n + 1, xw_out15 hG hC he hb (fun r hr => ?_) (n + 1) 0 1000000 (by omega) (by omega) mn_0⟩
    have hWe := hG.2.2.2.1 e
    have cand : ∀ R, rl_Tr n U V O R → R e = false → ∃ f, f < n ∧ cx_o U V O t X e f ∧ ex_cost W 12 (fun e => t.testBit e) + W f ≤ ex_cost W 12 R + W e := by
      intro R hR hRe
      obtain ⟨f, g1, g2, g3, g4, g5⟩ := ex_wout (rl_E hG) hC.2.1 hC.2.2.1 hR (show e < 12 by omega) hb hRe
      have ga := rl_Tr_act hG hR f g1 g3
      exact ⟨f, ga.1, ⟨ga.2, g2, (cx_way hG hC ga.1 ga.2 g2 (by omega)).mpr ⟨hb, g4⟩⟩, g5⟩
    rcases hr.2 with z | ⟨z, f, hf, h1, h2⟩
    · refine hp 100000 _ (Or.inl ⟨rfl, fun S hS hSe => ?_⟩) (Or.inl ⟨rfl, by rw [z]; rfl⟩)
      obtain ⟨f, hf, h1, _⟩ := cand S hS hSe
      have h2 := hr.1 f hf h1
      have h3 := hG.2.2.2.1 f
      dsimp only at h2
      omega
    · obtain ⟨w1, w2⟩ := (cx_way hG hC hf h1.1 h1.2.1 (show e < 12 by omega)).mp h1.2.2
      have hfe : f ≠ e := fun z => by have h9 := h1.2.1; rw [z, hb] at h9; exact absurd h9 (by decide)
      have hle := hC.2.2.1 f e (by omega) (by omega) h1.2.1 hb w2
      have c1 := ex_cost_g (W := W) (S := fun e => t.testBit e) (f := e) (e := f) hb h1.2.1 12 (by omega) (by omega)
      dsimp only at h2
      refine hp (ex_cost W 12 (fun e => t.testBit e) + r) _ (Or.inr ⟨_, w2, ?_, ?_, fun R hR hRe => ?_⟩) (Or.inr ⟨r, z, rfl, rfl⟩)
      · show (if e = f then true else if e = e then false else t.testBit e) = false
        rw [if_neg (fun z : e = f => hfe z.symm), if_pos rfl]
      · omega
      · obtain ⟨f', hf', h1', h2'⟩ := cand R hR hRe
        have h3 := hr.1 f' hf' h1'
        dsimp only at h3
        have hle' := hC.2.2.1 f' e (by omega) (by omega) h1'.2.1 hb ((cx_way hG hC hf' h1'.1 h1'.2.1 (show e < 12 by omega)).mp h1'.2.2).2
        omega
  · exact br_t rfl (hp _ _ (sp_T hG hC hb) (Or.inr ⟨0, by omega, rfl, rfl⟩))
/-! the next cost -/
theorem xw_gain12 {post : Int32 → Prop} {e w : Nat} (hG : rl_G n U V W) (he : e < 12) (hw : w < 4096) (hp : ∀ r, mn_I (fun f => w.testBit f = true ∧ W f < W e) (fun f => W e - W f) n r → post (nI r)) : ∀ k i r, i ≤ n → n - i < k → mn_I (fun f => w.testBit f = true ∧ W f < W e) (fun f => W e - W f) i r → wX_leastGain_12 post (nI e) (nI w) (nI n) f_ready f_connected (nI t) f_treeCost (ar_N U) (ar_N V) (ar_N W) (ar_B O) a_wayUp a_part a_order a_table k (nI r) (nI i) := by
  have hn := hG.1
  intro k
  induction k with
  | zero => intro i r _ h; exact absurd h (Nat.not_lt_zero _)
  | succ k ih =>
    intro i r hi hk hI
    refine pk_le n i (fun h => ?_) (fun h => ⟨vp_in_nI (by omega) (by omega), vp_in_nI (by omega) (by omega), nm_r (e' := nI (W e) - nI (W i)) ?_ ?_⟩)
    · have e1 : i = n := by omega
      subst e1
      exact hp r hI
    · rw [nI_clamp (by omega), nI_clamp (by omega)]
      rfl
    · have h1 := hG.2.2.2.1 i
      have h2 := hG.2.2.2.1 e
      have hr := mn_le hI
      refine bh_br (by omega) (by omega) (fun hb => ?_) (fun hb => nm_r (nI_1 i) (ih (i + 1) r (by omega) (by omega) (mn_no hI (fun z => ?_))))
      · by_cases hlt : W i < W e
        · have es : nI (W e) - nI (W i) = nI (W e - W i) := pk_sub (by omega)
          rw [es]
          refine br_f (nI_nle (by omega) (by omega)) (pk_le r (W e - W i) (fun z => ?_) (fun z => ?_))
          · exact nm_r (nI_1 i) (ih (i + 1) r (by omega) (by omega) (mn_no hI (fun _ => z)))
          · exact nm_r (nI_1 i) (ih (i + 1) _ (by omega) (by omega) (mn_yes (D := fun f => W e - W f) hI ⟨hb, hlt⟩ (by (try dsimp only); omega) z))
        · refine br_t ?_ (nm_r (nI_1 i) (ih (i + 1) r (by omega) (by omega) (mn_no hI (fun z => absurd z.2 hlt))))
          rw [Int32.le_iff_toInt_le, pk_sub_toInt (by omega) (by omega), show (0 : Int32).toInt = 0 from by decide]
          omega
      · rw [hb] at z
        exact absurd z.1 (by decide)
/-- an exchange that costs more -/
def cx_g (n : Nat) (U V W : Nat → Nat) (O : Nat → Bool) (t : Nat) (e f d : Nat) : Prop := e < n ∧ O e = true ∧ t.testBit e = false ∧ f < 12 ∧ t.testBit f = true ∧ rl_Tr n U V O (ex_g (fun e => t.testBit e) f e) ∧ W f < W e ∧ d = W e - W f
def nx_I (n : Nat) (U V W : Nat → Nat) (O : Nat → Bool) (t : Nat) (i r : Nat) : Prop := (∀ e f d, e < i → cx_g n U V W O t e f d → r ≤ d) ∧ (r = 1000000 ∨ (r ≤ 20 ∧ ∃ e f, cx_g n U V W O t e f r))
theorem xw_gain {post : Int32 → Prop} {e : Nat} (hG : rl_G n U V W) (hC : cx_C n U V W O t X a_wayUp) (he : e < n) (ho : O e = true) (hb : t.testBit e = false) (hp : ∀ r, (∀ f d, cx_g n U V W O t e f d → r ≤ d) → (r = 1000000 ∨ (r ≤ 20 ∧ ∃ f, cx_g n U V W O t e f r)) → post (nI r)) : wpX_leastGain post (nI n, f_ready, f_connected, nI t, f_treeCost, ar_N U, ar_N V, ar_N W, ar_B O, a_wayUp, a_part, a_order, a_table) (nI e) := by
  have hn := hG.1
  unfold wpX_leastGain
  refine xw_wayOf (e := e) hG hC (by omega) (fun w hw hwb => ?_)
  refine ⟨n + 1, xw_gain12 hG (by omega) hw (fun r hr => hp r (fun f d hg => ?_) ?_) (n + 1) 0 1000000 (by omega) (by omega) mn_0⟩
  · obtain ⟨g1, g2, g3, g4, g5, g6, g7, g8⟩ := hg
    rw [g8]
    refine hr.1 f (cx_act hG hC g5).1 ⟨?_, g7⟩
    rw [hwb f g4]
    exact (cx_way hG hC he ho hb g4).mpr ⟨g5, g6⟩
  · rcases hr.2 with z | ⟨z, f, hf, h1, h2⟩
    · exact Or.inl z
    · have h3 := h1.1
      rw [hwb f (by omega)] at h3
      obtain ⟨h4, h5⟩ := (cx_way hG hC he ho hb (by omega)).mp h3
      exact Or.inr ⟨z, f, he, ho, hb, by omega, h4, h5, h1.2, h2.symm⟩
theorem xw_next19 {post : Int32 → SX → Prop} (hG : rl_G n U V W) (hC : cx_C n U V W O t X a_wayUp) (hp : ∀ r, nx_I n U V W O t n r → (r = 1000000 → post (-5) (nI n, f_ready, f_connected, nI t, f_treeCost, ar_N U, ar_N V, ar_N W, ar_B O, a_wayUp, a_part, a_order, a_table)) ∧ (r ≠ 1000000 → post (f_treeCost + nI r) (nI n, f_ready, f_connected, nI t, f_treeCost, ar_N U, ar_N V, ar_N W, ar_B O, a_wayUp, a_part, a_order, a_table))) : ∀ k i r, i ≤ n → n - i < k → nx_I n U V W O t i r → wX_nextCost_19 post (nI n) f_ready f_connected (nI t) f_treeCost (ar_N U) (ar_N V) (ar_N W) (ar_B O) a_wayUp a_part a_order a_table k (nI r) (nI i) := by
  have hn := hG.1
  intro k
  induction k with
  | zero => intro i r _ h; exact absurd h (Nat.not_lt_zero _)
  | succ k ih =>
    intro i r hi hk hI
    have hr : r ≤ 1000000 := by rcases hI.2 with z | ⟨z, _⟩ <;> omega
    have skip : (O i = false ∨ t.testBit i = true) → nx_I n U V W O t (i + 1) r := by
      intro h
      refine ⟨fun e f d he hg => ?_, hI.2⟩
      by_cases hei : e = i
      · subst hei
        rcases h with h | h
        · have := hg.2.1; rw [h] at this; exact absurd this (by decide)
        · have := hg.2.2.1; rw [h] at this; exact absurd this (by decide)
      · exact hI.1 e f d (by omega) hg
    refine pk_le n i (fun h => ?_) (fun h => ⟨vp_in_nI (by omega) (by omega), ?_⟩)
    · have e1 : i = n := by omega
      subst e1
      exact pk_eq r 1000000 (hp r hI).1 (hp r hI).2
    · rw [nI_clamp (show i < 2 ^ 31 by omega)]
      refine ar_B0 (fun ho => nm_r (nI_1 i) (ih (i + 1) r (by omega) (by omega) (skip (Or.inl ho)))) (fun ho => ?_)
      refine xw_inTree hC.1 (by omega) (fun hb => br_f (by decide) (nm_r (nI_1 i) (ih (i + 1) r (by omega) (by omega) (skip (Or.inr hb))))) (fun hb => br_t rfl ?_)
      refine xw_gain hG hC h ho hb (fun s hs1 hs2 => ?_)
      have hs : s ≤ 1000000 := by rcases hs2 with z | ⟨z, _⟩ <;> omega
      refine pk_le r s (fun z => ?_) (fun z => ?_)
      · refine nm_r (nI_1 i) (ih (i + 1) r (by omega) (by omega) ⟨fun e f d he hg => ?_, hI.2⟩)
        by_cases hei : e = i
        · subst hei
          exact Nat.le_trans z (hs1 f d hg)
        · exact hI.1 e f d (by omega) hg
      · refine nm_r (nI_1 i) (ih (i + 1) s (by omega) (by omega) ⟨fun e f d he hg => ?_, ?_⟩)
        · by_cases hei : e = i
          · subst hei
            exact hs1 f d hg
          · have := hI.1 e f d (by omega) hg
            omega
        · rcases hs2 with y | ⟨y, f, hf⟩
          · exact Or.inl y
          · exact Or.inr ⟨y, i, f, hf⟩
theorem nx_law (hG : rl_G n U V W) (hC : cx_C n U V W O t X a_wayUp) {r : Nat} (h : nx_I n U V W O t n r) : sp_Min n U V W O (fun S => ex_cost W 12 (fun e => t.testBit e) < ex_cost W 12 S) (if r = 1000000 then 100000 else ex_cost W 12 (fun e => t.testBit e) + r) := by
  have hn := hG.1
  have cand : ∀ R, rl_Tr n U V O R → ex_cost W 12 (fun e => t.testBit e) < ex_cost W 12 R → ∃ e f, cx_g n U V W O t e f (W e - W f) ∧ ex_cost W 12 (fun e => t.testBit e) + W e ≤ ex_cost W 12 R + W f := by
    intro R hR hlt
    obtain ⟨e, f, g1, g2, g3, g4, g5, g6, g7⟩ := ex_next (rl_E hG) hC.2.1 hC.2.2.1 _ R rfl hR hlt
    have ge : ex_g (fun e => t.testBit e) f e e = true := if_pos rfl
    have ga := rl_Tr_act hG g5 e g1 ge
    exact ⟨e, f, ⟨ga.1, ga.2, g3, g2, g4, g5, g6, rfl⟩, g7⟩
  rcases h.2 with z | ⟨z, e, f, hg⟩
  · rw [if_pos z]
    refine Or.inl ⟨rfl, fun S hS hlt => ?_⟩
    obtain ⟨e, f, g1, g2⟩ := cand S hS hlt
    have g3 := h.1 e f _ g1.1 g1
    have g4 := hG.2.2.2.1 e
    omega
  · rw [if_neg (by omega)]
    obtain ⟨g1, g2, g3, g4, g5, g6, g7, g8⟩ := hg
    have c1 := ex_cost_g (W := W) (S := fun e => t.testBit e) (f := f) (e := e) g5 g3 12 g4 (by omega)
    refine Or.inr ⟨_, g6, ?_, ?_, fun R hR hlt => ?_⟩
    · dsimp only; omega
    · omega
    · obtain ⟨e', f', k1, k2⟩ := cand R hR hlt
      have k3 := h.1 e' f' _ k1.1 k1
      have k4 := k1.2.2.2.2.2.2.1
      omega
/-! the bottleneck -/
theorem xw_bott18 {post : Int32 → SX → Prop} (hG : rl_G n U V W) (ht : t < 4096) (hp : ∀ r, mx_I (fun f => t.testBit f = true) W n r → post (nI r) (nI n, f_ready, f_connected, nI t, f_treeCost, ar_N U, ar_N V, ar_N W, ar_B O, a_wayUp, a_part, a_order, a_table)) : ∀ k i r, i ≤ n → n - i < k → mx_I (fun f => t.testBit f = true) W i r → wX_bottleneck_18 post (nI n) f_ready f_connected (nI t) f_treeCost (ar_N U) (ar_N V) (ar_N W) (ar_B O) a_wayUp a_part a_order a_table k (nI r) (nI i) := by
  have hn := hG.1
  intro k
  induction k with
  | zero => intro i r _ h; exact absurd h (Nat.not_lt_zero _)
  | succ k ih =>
    intro i r hi hk hI
    refine pk_le n i (fun h => ?_) (fun h => ?_)
    · have e1 : i = n := by omega
      subst e1
      exact hp r hI
    · refine xw_inTree ht (by omega) (fun hb => br_f (by decide) ⟨vp_in_nI (by omega) (by omega), ?_⟩) (fun hb => br_t rfl ?_)
      · rw [nI_clamp (show i < 2 ^ 31 by omega)]
        have h1 := hG.2.2.2.1 i
        have h2 := hI.1
        refine pk_le (W i) r (fun z => ?_) (fun z => ⟨vp_in_nI (by omega) (by omega), ?_⟩)
        · exact nm_r (nI_1 i) (ih (i + 1) r (by omega) (by omega) (mx_no hI (fun _ => z)))
        · exact nm_r (e' := nI (W i)) rfl (nm_r (nI_1 i) (ih (i + 1) (W i) (by omega) (by omega) (mx_yes hG.2.2.2.1 hI hb z)))
      · refine nm_r (nI_1 i) (ih (i + 1) r (by omega) (by omega) (mx_no hI (fun z => ?_)))
        rw [hb] at z
        exact absurd z (by decide)
theorem bn_all {w : Nat} (hn : n ≤ 12) (h : ex_Conn U V n (ys_set n W O w)) : ex_Conn (wt_E (rl_act n O) U) (wt_E (rl_act n O) V) 12 (fun e => decide (W e ≤ w)) := by
  intro c hc
  refine h c (fun e he hs => ?_)
  unfold ys_set at hs
  rw [Bool.and_eq_true] at hs
  have := hc e (by omega) hs.2
  rw [wt_E_t hs.1, wt_E_t hs.1] at this
  exact this
theorem bn_law (hG : rl_G n U V W) (hC : cx_C n U V W O t X a_wayUp) {r : Nat} (h : mx_I (fun f => t.testBit f = true) W n r) : ys_bn n U V W O (nI r) := by
  have hn := hG.1
  refine Or.inl ⟨r, by have := h.1; omega, rfl, ?_, fun w' hw' hc => ?_⟩
  · have hc := (rl_conn (U := U) (V := V) hG.1 (wt_tree_act (rl_V hG) hC.2.1)).mp hC.2.1.2
    intro c hcc
    refine hc c (fun e he hs => hcc e he ?_)
    unfold ys_set
    rw [(cx_act hG hC hs).2.2, decide_eq_true (h.2.1 e he hs)]
    rfl
  · have hb := ex_bott (rl_E hG) hC.2.1 hC.2.2.1 (bn_all hn hc)
    rcases h.2.2 with z | ⟨f, hf, h1, h2⟩
    · omega
    · have := hb f (by omega) h1
      omega
theorem bn_none (hn : n ≤ 12) (h : ¬ ex_Conn (wt_E (rl_act n O) U) (wt_E (rl_act n O) V) 12 (fun _ => true)) : ys_bn n U V W O (-5) := by
  refine Or.inr ⟨rfl, fun w _ hc => h (fun c hcc => ?_)⟩
  exact bn_all hn hc c (fun e he _ => hcc e he rfl)
theorem rl_none (h : ¬ ex_Conn (wt_E (rl_act n O) U) (wt_E (rl_act n O) V) 12 (fun _ => true)) (S : Nat → Bool) : ¬ rl_Tr n U V O S := fun z => h (fun c hc => z.2 c (fun e he _ => hc e he rfl))
theorem sp_none (h : ¬ ex_Conn (wt_E (rl_act n O) U) (wt_E (rl_act n O) V) 12 (fun _ => true)) (Q : (Nat → Bool) → Prop) : sp_Min n U V W O Q 100000 := Or.inl ⟨rfl, fun S hS => absurd hS (rl_none h S)⟩
end
end
section
/-! ===== the component's answers, but for the counts ===== -/
section
variable {n : Nat} {U V W : Nat → Nat} {O : Nat → Bool}
theorem xn_back {tr tc : Int32} {wu pt od a_table : Nat → Int32} (h : ¬ ex_Conn (wt_E (rl_act n O) U) (wt_E (rl_act n O) V) 12 (fun _ => true)) : rl_X n U V W O (nI n, 1, 0, tr, tc, ar_N U, ar_N V, ar_N W, ar_B O, wu, pt, od, a_table) := ⟨1, 0, tr, tc, wu, pt, od, a_table, rfl, Or.inr ⟨rfl, Or.inl ⟨rfl, h⟩⟩⟩
theorem xc_back {t : Nat} {X : Nat → Nat → Bool} {wu pt od a_table : Nat → Int32} (h : cx_C n U V W O t X wu) : rl_X n U V W O (nI n, 1, 1, nI t, nI (ex_cost W 12 (fun e => t.testBit e)), ar_N U, ar_N V, ar_N W, ar_B O, wu, pt, od, a_table) := ⟨1, 1, nI t, _, wu, pt, od, a_table, rfl, Or.inr ⟨rfl, Or.inr ⟨rfl, t, X, h.1, rfl, rfl, h.2.1, h.2.2.1, h.2.2.2.1, h.2.2.2.2⟩⟩⟩
theorem xw_prep2 {post : SX → Prop} {u : SX} (hG : rl_G n U V W) (hu : rl_X n U V W O u) (hN : ∀ (tr tc : Int32) (wu pt od a_table : Nat → Int32), ¬ ex_Conn (wt_E (rl_act n O) U) (wt_E (rl_act n O) V) 12 (fun _ => true) → post (nI n, 1, 0, tr, tc, ar_N U, ar_N V, ar_N W, ar_B O, wu, pt, od, a_table)) (hC : ∀ (t : Nat) (X : Nat → Nat → Bool) (wu pt od a_table : Nat → Int32), cx_C n U V W O t X wu → post (nI n, 1, 1, nI t, nI (ex_cost W 12 (fun e => t.testBit e)), ar_N U, ar_N V, ar_N W, ar_B O, wu, pt, od, a_table)) : wpX_prepare post u := by
  obtain ⟨rd, cn, tr, tc, wu, pt, od, tb, rfl, hr⟩ := hu
  refine xw_prep hG hr (fun cn tr tc wu pt od hP => ?_)
  rcases hP with ⟨h1, h2⟩ | ⟨h1, t, X, k1, k2, k3, k4, k5, k6, k7⟩
  · subst h1
    exact hN tr tc wu pt od tb h2
  · subst h1
    subst k2
    subst k3
    exact hC t X wu pt od tb ⟨k1, k4, k5, k6, k7⟩
theorem xw_outside {post : Int32 → SX → Prop} {u : SX} {e : Nat} (hG : rl_G n U V W) (hu : rl_X n U V W O u) (he : e < n) (hN : ∀ u', rl_X n U V W O u' → ¬ ex_Conn (wt_E (rl_act n O) U) (wt_E (rl_act n O) V) 12 (fun _ => true) → post 1 u') (hF : ∀ u' t X wu, rl_X n U V W O u' → cx_C n U V W O t X wu → O e = false → post 1 u') (hO : ∀ (t : Nat) (X : Nat → Nat → Bool) (wu pt od a_table : Nat → Int32), cx_C n U V W O t X wu → O e = true → post 0 (nI n, 1, 1, nI t, nI (ex_cost W 12 (fun e => t.testBit e)), ar_N U, ar_N V, ar_N W, ar_B O, wu, pt, od, a_table)) : wpX_outside post u (nI e) := by
  have hn := hG.1
  have hu' := hu
  obtain ⟨rd, cn, tr, tc, wu, pt, od, tb, rfl, hr⟩ := hu'
  unfold wpX_outside
  refine xw_prep2 hG hu (fun tr tc wu pt od tb h => ?_) (fun t X wu pt od tb h => ?_)
  · exact br_f (nI_pos (by omega)) (br_t (nI_lt he (by omega)) (br_t rfl (br_t rfl (hN _ (xn_back h) h))))
  · refine br_f (nI_pos (by omega)) (br_t (nI_lt he (by omega)) (br_t rfl (br_f (by decide) ⟨vp_in_nI (by omega) (by omega), ?_⟩)))
    rw [nI_clamp (by omega)]
    exact ar_B0 (fun ho => hF _ t X wu (xc_back h) h ho) (fun ho => hO t X wu pt od tb h ho)
theorem xs_told {t : Nat} (hG : rl_G n U V W) {d : Nat} (hd : d ≤ 20) : ys_told (ex_cost W 12 (fun e => t.testBit e) + d) = nI (ex_cost W 12 (fun e => t.testBit e)) + nI d := by
  have := rl_cost hG (fun e => t.testBit e)
  unfold ys_told
  rw [if_neg (by omega), nI_add]
theorem xs_t5 : ys_told 100000 = -5 := if_pos rfl
theorem sp_off (hG : rl_G n U V W) {e : Nat} (he : e < 12) (ho : O e = false) : sp_Min n U V W O (fun S => S e = true) 100000 := by
  refine Or.inl ⟨rfl, fun S hS hSe => ?_⟩
  have := (rl_Tr_act hG hS e he hSe).2
  rw [ho] at this
  exact absurd this (by decide)
theorem xq_cost {post : Int32 → SX → Prop} {u : SX} (hG : rl_G n U V W) (hu : rl_X n U V W O u) (hp : ∀ m u', sp_Min n U V W O (fun _ => True) m → rl_X n U V W O u' → post (ys_told m) u') : wpX_cost post u := by
  have hu' := hu
  obtain ⟨rd, cn, tr, tc, wu, pt, od, tb, rfl, hr⟩ := hu'
  unfold wpX_cost
  refine xw_prep2 hG hu (fun tr tc wu pt od tb h => ?_) (fun t X wu pt od tb h => ?_)
  · exact br_t rfl (hp 100000 _ (sp_none h _) (xn_back h))
  · refine br_f (by decide) ?_
    have := hp _ _ (sp_T hG h (Q := fun _ => True) trivial) (xc_back (pt := pt) (od := od) (a_table := tb) h)
    have e := xs_told (t := t) hG (d := 0) (by omega)
    rw [Nat.add_zero, nI_0, Int32.add_zero] at e
    rw [e] at this
    exact this
theorem xq_with {post : Int32 → SX → Prop} {u : SX} {e : Nat} (he : e < n) (hG : rl_G n U V W) (hu : rl_X n U V W O u) (hp : ∀ m u', sp_Min n U V W O (fun S => S e = true) m → rl_X n U V W O u' → post (ys_told m) u') : wpX_costWith post u (nI e) := by
  have hn := hG.1
  have hu' := hu
  obtain ⟨rd, cn, tr, tc, wu, pt, od, tb, rfl, hr⟩ := hu'
  unfold wpX_costWith
  refine br_f (nI_pos (by omega)) (br_t (nI_lt he (by omega)) (br_t rfl ?_))
  refine xw_outside hG hu he (fun u' hu' h => ?_) (fun u' t X wu hu' h ho => ?_) (fun t X wu pt od tb h ho => ?_)
  · obtain ⟨rd, cn, tr, tc, wu, pt, od, tb, rfl, hr⟩ := hu'
    exact br_f (by decide) (hp 100000 _ (sp_none h _) ⟨rd, cn, tr, tc, wu, pt, od, tb, rfl, hr⟩)
  · obtain ⟨rd, cn, tr, tc, wu, pt, od, tb, rfl, hr⟩ := hu'
    exact br_f (by decide) (hp 100000 _ (sp_off hG (by omega) ho) ⟨rd, cn, tr, tc, wu, pt, od, tb, rfl, hr⟩)
  · refine br_t rfl (xw_with hG h he ho (fun d hd hm => ?_))
    have := hp _ _ hm (xc_back (pt := pt) (od := od) (a_table := tb) h)
    rw [xs_told hG hd] at this
    exact this
theorem xq_some {post : Int32 → SX → Prop} {u : SX} {e : Nat} (he : e < n) (hG : rl_G n U V W) (hu : rl_X n U V W O u) (hp : ∀ m me u', sp_Min n U V W O (fun _ => True) m → sp_Min n U V W O (fun S => S e = true) me → rl_X n U V W O u' → post (ys_some m me) u') : wpX_inSome post u (nI e) := by
  have hn := hG.1
  have hu' := hu
  obtain ⟨rd, cn, tr, tc, wu, pt, od, tb, rfl, hr⟩ := hu'
  unfold wpX_inSome
  refine xw_outside hG hu he (fun u' hu' h => ?_) (fun u' t X wu hu' h ho => ?_) (fun t X wu pt od tb h ho => ?_)
  · obtain ⟨rd, cn, tr, tc, wu, pt, od, tb, rfl, hr⟩ := hu'
    exact br_f (by decide) (hp 100000 100000 _ (sp_none h _) (sp_none h _) ⟨rd, cn, tr, tc, wu, pt, od, tb, rfl, hr⟩)
  · obtain ⟨rd, cn, tr, tc, wu', pt, od, tb, rfl, hr⟩ := hu'
    have hc := rl_cost hG (fun e => t.testBit e)
    have := hp _ 100000 _ (sp_T hG h (Q := fun _ => True) trivial) (sp_off hG (by omega) ho) ⟨rd, cn, tr, tc, wu', pt, od, tb, rfl, hr⟩
    unfold ys_some at this
    rw [if_neg (by omega)] at this
    exact br_f (by decide) this
  · refine br_t rfl (xw_with hG h he ho (fun d hd hm => ?_))
    have hc := rl_cost hG (fun e => t.testBit e)
    have := hp _ _ _ (sp_T hG h (Q := fun _ => True) trivial) hm (xc_back (pt := pt) (od := od) (a_table := tb) h)
    unfold ys_some at this
    refine pk_eq d 0 (fun z => ?_) (fun z => ?_)
    · rw [if_pos (by omega)] at this; exact this
    · rw [if_neg (by omega)] at this; exact this
theorem xq_all {post : Int32 → SX → Prop} {u : SX} {e : Nat} (he : e < n) (hG : rl_G n U V W) (hu : rl_X n U V W O u) (hp : ∀ m mo u', sp_Min n U V W O (fun _ => True) m → sp_Min n U V W O (fun S => S e = false) mo → rl_X n U V W O u' → post (ys_all m mo) u') : wpX_inAll post u (nI e) := by
  have hn := hG.1
  have hu' := hu
  obtain ⟨rd, cn, tr, tc, wu, pt, od, tb, rfl, hr⟩ := hu'
  unfold wpX_inAll
  refine xw_outside hG hu he (fun u' hu' h => ?_) (fun u' t X wu hu' h ho => ?_) (fun t X wu pt od tb h ho => ?_)
  · obtain ⟨rd, cn, tr, tc, wu, pt, od, tb, rfl, hr⟩ := hu'
    exact br_f (by decide) (hp 100000 100000 _ (sp_none h _) (sp_none h _) ⟨rd, cn, tr, tc, wu, pt, od, tb, rfl, hr⟩)
  · obtain ⟨rd, cn, tr, tc, wu', pt, od, tb, rfl, hr⟩ := hu'
    have hte : t.testBit e = false := by
      cases hb : t.testBit e
      · rfl
      · have := (cx_act hG h hb).2.1
        rw [ho] at this
        exact absurd this (by decide)
    have := hp _ _ _ (sp_T hG h (Q := fun _ => True) trivial) (sp_T hG h (Q := fun S => S e = false) hte) ⟨rd, cn, tr, tc, wu', pt, od, tb, rfl, hr⟩
    unfold ys_all at this
    rw [if_neg (by omega)] at this
    exact br_f (by decide) this
  · refine br_t rfl (xw_out hG h he (fun mo x hm hx => ?_))
    have hc := rl_cost hG (fun e => t.testBit e)
    have := hp _ _ _ (sp_T hG h (Q := fun _ => True) trivial) hm (xc_back (pt := pt) (od := od) (a_table := tb) h)
    unfold ys_all at this
    rcases hx with ⟨h1, h2⟩ | ⟨d, h1, h2, h3⟩
    · rw [if_pos (by omega)] at this
      rw [h2]
      exact br_f (by decide) this
    · rw [h3]
      refine pk_le d 0 (fun z => ?_) (fun z => ?_)
      · rw [if_neg (by omega)] at this; exact this
      · rw [if_pos (by omega)] at this; exact this
theorem xq_wout {post : Int32 → SX → Prop} {u : SX} {e : Nat} (he : e < n) (hG : rl_G n U V W) (hu : rl_X n U V W O u) (hp : ∀ m u', sp_Min n U V W O (fun S => S e = false) m → rl_X n U V W O u' → post (ys_told m) u') : wpX_costWithout post u (nI e) := by
  have hn := hG.1
  have hu' := hu
  obtain ⟨rd, cn, tr, tc, wu, pt, od, tb, rfl, hr⟩ := hu'
  unfold wpX_costWithout
  refine br_f (nI_pos (by omega)) (br_t (nI_lt he (by omega)) (br_t rfl ?_))
  refine xw_prep2 hG hu (fun tr tc wu pt od tb h => ?_) (fun t X wu pt od tb h => ?_)
  · exact br_t rfl (hp 100000 _ (sp_none h _) (xn_back h))
  · refine br_f (by decide) (xw_out hG h he (fun mo x hm hx => ?_))
    have := hp _ _ hm (xc_back (pt := pt) (od := od) (a_table := tb) h)
    rcases hx with ⟨h1, h2⟩ | ⟨d, h1, h2, h3⟩
    · rw [h1, xs_t5] at this
      exact br_t h2 this
    · rw [h3]
      rw [h2, xs_told hG h1] at this
      refine pk_eq d 1000000 (fun z => by omega) (fun z => this)
theorem xq_slack {post : Int32 → SX → Prop} {u : SX} {e : Nat} (he : e < n) (hG : rl_G n U V W) (hu : rl_X n U V W O u) (hp : ∀ m me mo u', sp_Min n U V W O (fun _ => True) m → sp_Min n U V W O (fun S => S e = true) me → (me = m → sp_Min n U V W O (fun S => S e = false) mo) → rl_X n U V W O u' → post (ys_slack m me mo) u') : wpX_slack post u (nI e) := by
  have hn := hG.1
  have hu' := hu
  obtain ⟨rd, cn, tr, tc, wu, pt, od, tb, rfl, hr⟩ := hu'
  unfold wpX_slack
  refine br_f (nI_pos (by omega)) (br_t (nI_lt he (by omega)) (br_t rfl ?_))
  refine xw_outside hG hu he (fun u' hu' h => ?_) (fun u' t X wu hu' h ho => ?_) (fun t X wu pt od tb h ho => ?_)
  · obtain ⟨rd, cn, tr, tc, wu, pt, od, tb, rfl, hr⟩ := hu'
    exact br_f (by decide) (hp 100000 100000 100000 _ (sp_none h _) (sp_none h _) (fun _ => sp_none h _) ⟨rd, cn, tr, tc, wu, pt, od, tb, rfl, hr⟩)
  · obtain ⟨rd, cn, tr, tc, wu', pt, od, tb, rfl, hr⟩ := hu'
    have hc := rl_cost hG (fun e => t.testBit e)
    have := hp _ 100000 0 _ (sp_T hG h (Q := fun _ => True) trivial) (sp_off hG (by omega) ho) (fun z => by omega) ⟨rd, cn, tr, tc, wu', pt, od, tb, rfl, hr⟩
    unfold ys_slack at this
    rw [if_neg (by omega)] at this
    exact br_f (by decide) this
  · refine br_t rfl (xw_with hG h he ho (fun d hd hm => ?_))
    have hc := rl_cost hG (fun e => t.testBit e)
    refine pk_le d 0 (fun z => ?_) (fun z => ?_)
    · have hd0 : d = 0 := by omega
      subst hd0
      refine xw_out hG h he (fun mo x hmo hx => ?_)
      have := hp _ _ mo _ (sp_T hG h (Q := fun _ => True) trivial) hm (fun _ => hmo) (xc_back (pt := pt) (od := od) (a_table := tb) h)
      unfold ys_slack at this
      rw [if_pos (by omega)] at this
      rcases hx with ⟨h1, h2⟩ | ⟨d, h1, h2, h3⟩
      · rw [if_pos h1] at this
        exact br_t h2 this
      · rw [if_neg (by omega), h2, pk_sub (by omega), Nat.add_sub_cancel_left] at this
        rw [h3]
        refine pk_eq d 1000000 (fun z => by omega) (fun z => this)
    · have := hp _ _ 0 _ (sp_T hG h (Q := fun _ => True) trivial) hm (fun z => by omega) (xc_back (pt := pt) (od := od) (a_table := tb) h)
      unfold ys_slack at this
      rw [if_neg (by omega)] at this
      exact this
theorem xq_next {post : Int32 → SX → Prop} {u : SX} (hG : rl_G n U V W) (hu : rl_X n U V W O u) (hp : ∀ b r u', sp_Min n U V W O (fun _ => True) b → sp_Min n U V W O (fun S => b < ex_cost W 12 S) r → rl_X n U V W O u' → post (ys_told r) u') : wpX_nextCost post u := by
  have hu' := hu
  obtain ⟨rd, cn, tr, tc, wu, pt, od, tb, rfl, hr⟩ := hu'
  unfold wpX_nextCost
  refine xw_prep2 hG hu (fun tr tc wu pt od tb h => ?_) (fun t X wu pt od tb h => ?_)
  · exact br_t rfl (hp 100000 100000 _ (sp_none h _) (sp_none h _) (xn_back h))
  · refine br_f (by decide) ⟨n + 1, xw_next19 hG h (fun r hr => ?_) (n + 1) 0 1000000 (by omega) (by omega) ⟨fun e f d z => absurd z (Nat.not_lt_zero _), Or.inl rfl⟩⟩
    have := hp _ _ _ (sp_T hG h (Q := fun _ => True) trivial) (nx_law hG h hr) (xc_back (pt := pt) (od := od) (a_table := tb) h)
    refine ⟨fun z => ?_, fun z => ?_⟩
    · rw [if_pos z, xs_t5] at this
      exact this
    · have hr20 : r ≤ 20 := by
        rcases hr.2 with y | ⟨y, _⟩
        · exact absurd y z
        · exact y
      rw [if_neg z, xs_told hG hr20] at this
      exact this
theorem xq_bott {post : Int32 → SX → Prop} {u : SX} (hG : rl_G n U V W) (hu : rl_X n U V W O u) (hp : ∀ r u', ys_bn n U V W O r → rl_X n U V W O u' → post r u') : wpX_bottleneck post u := by
  have hu' := hu
  obtain ⟨rd, cn, tr, tc, wu, pt, od, tb, rfl, hr⟩ := hu'
  unfold wpX_bottleneck
  refine xw_prep2 hG hu (fun tr tc wu pt od tb h => ?_) (fun t X wu pt od tb h => ?_)
  · exact br_t rfl (hp _ _ (bn_none hG.1 h) (xn_back h))
  · exact br_f (by decide) ⟨n + 1, xw_bott18 hG h.1 (fun r hr => hp _ _ (bn_law hG h hr) (xc_back h)) (n + 1) 0 0 (by omega) (by omega) mx_0⟩
end
end
section
/-! ===== the component's walks: the table, the determinant ===== -/
def di_I (z : Int) : Int32 := Int32.ofInt z
theorem di_nI (k : Nat) : di_I (k : Int) = nI k := Int32.ofInt_eq_ofNat
theorem di_toInt {z : Int} (h1 : -16777216 ≤ z) (h2 : z ≤ 16777216) : (di_I z).toInt = z := Int32.toInt_ofInt_of_le (by omega) (by omega)
theorem di_ne {z : Int} (h1 : 1 ≤ z) (h2 : z ≤ 4096) : ¬ di_I z = 0 := by
  intro h
  have := di_toInt (z := z) (by omega) (by omega)
  rw [h, show (0 : Int32).toInt = 0 from by decide] at this
  omega
theorem di_nn {z : Int} (h1 : 0 ≤ z) (h2 : z ≤ 4096) : 0 ≤ di_I z := by
  rw [Int32.le_iff_toInt_le, di_toInt (by omega) (by omega)]
  exact h1
theorem di_bnd {T x : Int} (h1 : 1 ≤ T) (h2 : T ≤ 4096) (h3 : -4096 ≤ x) (h4 : x ≤ 4096) : -16777216 ≤ T * x ∧ T * x ≤ 16777216 := by
  have a1 : T * x ≤ T * 4096 := Int.mul_le_mul_of_nonneg_left h4 (by omega)
  have a2 : T * (-4096) ≤ T * x := Int.mul_le_mul_of_nonneg_left h3 (by omega)
  omega
theorem di_div {T x : Int} (h1 : 1 ≤ T) (h2 : T ≤ 4096) (h3 : -4096 ≤ x) (h4 : x ≤ 4096) : di_I (T * x) / di_I T = di_I x := by
  have hb := di_bnd h1 h2 h3 h4
  have hT : (di_I T).toInt = T := di_toInt (by omega) (by omega)
  apply Int32.toInt_inj.mp
  rw [Int32.toInt_div_of_ne_right _ _ (fun z => by rw [z, show (-1 : Int32).toInt = -1 from rfl] at hT; omega), hT, di_toInt hb.1 hb.2, di_toInt (by omega) (by omega)]
  exact Int.mul_tdiv_cancel_left _ (by omega)
theorem di_ix (i j : Nat) : (nI i * 7) + nI j = nI (i * 7 + j) := by
  rw [show (7 : Int32) = nI 7 from rfl, pk_mul, nI_add]
theorem di_ixin {i j : Nat} (hi : i < 7) (hj : j < 7) : vp_in ((nI i * 7) + nI j) 49 := by
  rw [di_ix]
  exact vp_in_nI (by omega) (by omega)
theorem di_ixcl {i j : Nat} (hi : i < 7) (hj : j < 7) : ((nI i * 7) + nI j).toNatClampNeg = i * 7 + j := by
  rw [di_ix, nI_clamp (by omega)]
section
variable {f_edges f_ready f_connected f_tree f_treeCost : Int32} {a_endU a_endV a_weights a_on a_wayUp a_part a_order a_table : Nat → Int32}
theorem xw_clear2 {post : SX → Prop} (hp : ∀ tb : Nat → Int32, (∀ j, j < 49 → tb j = 0) → post (f_edges, f_ready, f_connected, f_tree, f_treeCost, a_endU, a_endV, a_weights, a_on, a_wayUp, a_part, a_order, tb)) : ∀ k i tb, i ≤ 49 → 49 - i < k → (∀ j, j < i → tb j = 0) → wX_clearTable_2 post f_edges f_ready f_connected f_tree f_treeCost k (nI i) a_endU a_endV a_weights a_on a_wayUp a_part a_order tb := by
  intro k
  induction k with
  | zero => intro i tb _ h; exact absurd h (Nat.not_lt_zero _)
  | succ k ih =>
    intro i tb hi hk hI
    refine pk_le 49 i (fun h => ?_) (fun h => ⟨vp_in_nI h (by omega), fun p' ep => ?_⟩)
    · exact hp tb (fun j hj => hI j (by omega))
    · rw [ep, nI_clamp (by omega)]
      refine nm_r (nI_1 i) (ih (i + 1) _ (by omega) (by omega) (fun j hj => ?_))
      by_cases hji : j = i
      · rw [hji, pk_us]
      · rw [pk_un hji]; exact hI j (by omega)
theorem xw_clear {post : SX → Prop} (hp : ∀ tb : Nat → Int32, (∀ j, j < 49 → tb j = 0) → post (f_edges, f_ready, f_connected, f_tree, f_treeCost, a_endU, a_endV, a_weights, a_on, a_wayUp, a_part, a_order, tb)) : wpX_clearTable post (f_edges, f_ready, f_connected, f_tree, f_treeCost, a_endU, a_endV, a_weights, a_on, a_wayUp, a_part, a_order, a_table) :=
  ⟨50, xw_clear2 hp 50 0 a_table (by omega) (by omega) (fun j z => absurd z (Nat.not_lt_zero _))⟩
/-- what an edge adds at i, j -/
def en_d (a b i j : Nat) : Int := (if a = i then (if i = j then 1 else 0) - (if b = j then 1 else 0) else 0) + (if b = i then (if i = j then 1 else 0) - (if a = j then 1 else 0) else 0)
theorem en_ix {i j a b : Nat} (hi : i < 7) (hj : j < 7) (ha : a < 7) (hb : b < 7) : (i * 7 + j = a * 7 + b) ↔ (i = a ∧ j = b) := by omega
theorem en_at {tb : Nat → Int32} {M : Nat → Nat → Int} {a b : Nat} (ha : a < 7) (hb : b < 7) (hab : a ≠ b) (hM : ∀ i j, i < 7 → j < 7 → tb (i * 7 + j) = di_I (M i j)) {t1 t2 t3 t4 : Nat → Int32}
    (h1 : t1 = upd tb (a * 7 + a) (tb (a * 7 + a) + 1)) (h2 : t2 = upd t1 (b * 7 + b) (t1 (b * 7 + b) + 1)) (h3 : t3 = upd t2 (a * 7 + b) (t2 (a * 7 + b) - 1)) (h4 : t4 = upd t3 (b * 7 + a) (t3 (b * 7 + a) - 1)) :
    ∀ i j, i < 7 → j < 7 → t4 (i * 7 + j) = di_I (M i j + en_d a b i j) := by
  have one : (1 : Int32) = di_I 1 := rfl
  have e1 : ∀ i j, i < 7 → j < 7 → t1 (i * 7 + j) = di_I (M i j + (if i = a ∧ j = a then 1 else 0)) := by
    intro i j hi hj
    rw [h1]
    unfold upd
    by_cases z : i * 7 + j = a * 7 + a
    · rw [if_pos z]
      have z' := (en_ix hi hj ha ha).mp z
      rw [if_pos z', z'.1, z'.2, hM a a ha ha, one]
      exact (Int32.ofInt_add _ _).symm
    · rw [if_neg z, if_neg (fun y => z ((en_ix hi hj ha ha).mpr y)), Int.add_zero]
      exact hM i j hi hj
  have e2 : ∀ i j, i < 7 → j < 7 → t2 (i * 7 + j) = di_I (M i j + (if i = a ∧ j = a then 1 else 0) + (if i = b ∧ j = b then 1 else 0)) := by
    intro i j hi hj
    rw [h2]
    unfold upd
    by_cases z : i * 7 + j = b * 7 + b
    · rw [if_pos z]
      have z' := (en_ix hi hj hb hb).mp z
      rw [if_pos z', z'.1, z'.2, e1 b b hb hb, one]
      exact (Int32.ofInt_add _ _).symm
    · rw [if_neg z, if_neg (fun y => z ((en_ix hi hj hb hb).mpr y)), Int.add_zero]
      exact e1 i j hi hj
  have e3 : ∀ i j, i < 7 → j < 7 → t3 (i * 7 + j) = di_I (M i j + (if i = a ∧ j = a then 1 else 0) + (if i = b ∧ j = b then 1 else 0) - (if i = a ∧ j = b then 1 else 0)) := by
    intro i j hi hj
    rw [h3]
    unfold upd
    by_cases z : i * 7 + j = a * 7 + b
    · rw [if_pos z]
      have z' := (en_ix hi hj ha hb).mp z
      rw [if_pos z', z'.1, z'.2, e2 a b ha hb, one]
      exact (Int32.ofInt_sub _ _).symm
    · rw [if_neg z, if_neg (fun y => z ((en_ix hi hj ha hb).mpr y)), Int.sub_zero]
      exact e2 i j hi hj
  intro i j hi hj
  have e4 : t4 (i * 7 + j) = di_I (M i j + (if i = a ∧ j = a then 1 else 0) + (if i = b ∧ j = b then 1 else 0) - (if i = a ∧ j = b then 1 else 0) - (if i = b ∧ j = a then 1 else 0)) := by
    rw [h4]
    unfold upd
    by_cases z : i * 7 + j = b * 7 + a
    · rw [if_pos z]
      have z' := (en_ix hi hj hb ha).mp z
      rw [if_pos z', z'.1, z'.2, e3 b a hb ha, one]
      exact (Int32.ofInt_sub _ _).symm
    · rw [if_neg z, if_neg (fun y => z ((en_ix hi hj hb ha).mpr y)), Int.sub_zero]
      exact e3 i j hi hj
  rw [e4]
  refine congrArg di_I ?_
  unfold en_d
  generalize M i j = m
  by_cases c1 : a = i
  · subst c1
    by_cases c2 : a = j
    · subst c2
      have hba : ¬ b = a := fun z => hab z.symm
      simp [hab, hba]
    · have c2' : ¬ j = a := fun z => c2 z.symm
      by_cases c3 : b = j
      · subst c3
        simp [hab, c2, c2']
        omega
      · have c3' : ¬ j = b := fun z => c3 z.symm
        have hba : ¬ b = a := fun z => hab z.symm
        simp [hab, hba, c2, c2', c3, c3']
  · have c1' : ¬ i = a := fun z => c1 z.symm
    by_cases c4 : b = i
    · subst c4
      by_cases c2 : b = j
      · subst c2
        simp [hab, c1']
      · have c2' : ¬ j = b := fun z => c2 z.symm
        by_cases c3 : a = j
        · subst c3
          simp [c1', c2, c2']
          omega
        · have c3' : ¬ j = a := fun z => c3 z.symm
          simp [c1, c1', c2, c2', c3, c3']
    · have c4' : ¬ i = b := fun z => c4 z.symm
      simp [c1, c1', c4, c4']
theorem xw_enter {post : SX → Prop} {M : Nat → Nat → Int} {a b : Nat} (ha : a < 7) (hb : b < 7) (hab : a ≠ b) (hM : ∀ i j, i < 7 → j < 7 → a_table (i * 7 + j) = di_I (M i j)) (hp : ∀ tb : Nat → Int32, (∀ i j, i < 7 → j < 7 → tb (i * 7 + j) = di_I (M i j + en_d a b i j)) → post (f_edges, f_ready, f_connected, f_tree, f_treeCost, a_endU, a_endV, a_weights, a_on, a_wayUp, a_part, a_order, tb)) : wpX_enter post (f_edges, f_ready, f_connected, f_tree, f_treeCost, a_endU, a_endV, a_weights, a_on, a_wayUp, a_part, a_order, a_table) (nI a) (nI b) := by
  unfold wpX_enter
  dsimp only
  rw [di_ixcl ha ha, di_ixcl hb hb, di_ixcl ha hb, di_ixcl hb ha]
  refine ⟨di_ixin ha ha, di_ixin ha ha, fun t1 h1 => ⟨di_ixin hb hb, di_ixin hb hb, fun t2 h2 => ⟨di_ixin ha hb, di_ixin ha hb, fun t3 h3 => ⟨di_ixin hb ha, di_ixin hb ha, fun t4 h4 => ?_⟩⟩⟩⟩
  exact hp t4 (en_at ha hb hab hM h1 h2 h3 h4)
/-- row after row: the elimination of one row -/
theorem xw_elim16 {post : SX → Prop} {row k : Nat} {pv bf ld : Int32} (hr : row < 7) (hk : k < 7) (hrk : row ≠ k) (hbf : ¬ bf = 0) (hp : ∀ tb : Nat → Int32, (∀ c, k ≤ c → c < 7 → tb (row * 7 + c) = (a_table (row * 7 + c) * pv - ld * a_table (k * 7 + c)) / bf) → (∀ i c, i < 7 → c < 7 → i ≠ row → tb (i * 7 + c) = a_table (i * 7 + c)) → post (f_edges, f_ready, f_connected, f_tree, f_treeCost, a_endU, a_endV, a_weights, a_on, a_wayUp, a_part, a_order, tb)) :
    ∀ n c tb, k ≤ c → c ≤ 7 → 7 - c < n → (∀ d, k ≤ d → d < c → tb (row * 7 + d) = (a_table (row * 7 + d) * pv - ld * a_table (k * 7 + d)) / bf) → (∀ d, c ≤ d → d < 7 → tb (row * 7 + d) = a_table (row * 7 + d)) → (∀ i d, i < 7 → d < 7 → i ≠ row → tb (i * 7 + d) = a_table (i * 7 + d)) → wX_eliminate_16 post (nI row) (nI k) pv bf ld f_edges f_ready f_connected f_tree f_treeCost n (nI c) a_endU a_endV a_weights a_on a_wayUp a_part a_order tb := by
  intro n
  induction n with
  | zero => intro c tb _ _ h; exact absurd h (Nat.not_lt_zero _)
  | succ n ih =>
    intro c tb hkc hc7 hn h1 h2 h3
    refine pk_le 7 c (fun h => ?_) (fun h => ?_)
    · exact hp tb (fun d hd hd7 => h1 d hd (by omega)) h3
    · rw [di_ixcl hr h, di_ixcl hk h, h2 c (Nat.le_refl _) h, h3 k c hk h (fun z => hrk z.symm)]
      refine ⟨di_ixin hr h, di_ixin hk h, nm_e (br_f hbf ⟨hbf, di_ixin hr h, fun p' ep => ?_⟩)⟩
      rw [ep]
      refine nm_r (nI_1 c) (ih (c + 1) _ (by omega) (by omega) (by omega) (fun d hd hdc => ?_) (fun d hd hd7 => ?_) (fun i d hi hd hir => ?_))
      · by_cases hdc' : d = c
        · rw [hdc', pk_us]
        · rw [pk_un (by omega)]; exact h1 d hd (by omega)
      · rw [pk_un (by omega)]; exact h2 d (by omega) hd7
      · rw [pk_un (fun z => hir ((en_ix hi hd hr h).mp z).1)]; exact h3 i d hi hd hir
theorem xw_elim {post : SX → Prop} {row k : Nat} {pv bf : Int32} (hr : row < 7) (hk : k < 7) (hrk : row ≠ k) (hbf : ¬ bf = 0) (hp : ∀ tb : Nat → Int32, (∀ c, k ≤ c → c < 7 → tb (row * 7 + c) = (a_table (row * 7 + c) * pv - a_table (row * 7 + k) * a_table (k * 7 + c)) / bf) → (∀ i c, i < 7 → c < 7 → i ≠ row → tb (i * 7 + c) = a_table (i * 7 + c)) → post (f_edges, f_ready, f_connected, f_tree, f_treeCost, a_endU, a_endV, a_weights, a_on, a_wayUp, a_part, a_order, tb)) : wpX_eliminate post (f_edges, f_ready, f_connected, f_tree, f_treeCost, a_endU, a_endV, a_weights, a_on, a_wayUp, a_part, a_order, a_table) (nI row) (nI k) pv bf := by
  unfold wpX_eliminate
  dsimp only
  rw [di_ixcl hr hk]
  refine ⟨di_ixin hr hk, nm_e ⟨8, ?_⟩⟩
  exact xw_elim16 hr hk hrk hbf hp 8 k a_table (Nat.le_refl _) (by omega) (by omega) (fun d h1 h2 => by omega) (fun _ _ _ => rfl) (fun _ _ _ _ _ => rfl)
theorem xw_pivot {post : Int32 → Prop} {k km : Nat} (hk : k < 7) (hkm : km < 128) (hb : km.testBit k = true) (h0 : ¬ a_table (k * 7 + k) = 0) (hp : post (nI k)) : wpX_pivotRow post (f_edges, f_ready, f_connected, f_tree, f_treeCost, a_endU, a_endV, a_weights, a_on, a_wayUp, a_part, a_order, a_table) (nI k) (nI km) := by
  unfold wpX_pivotRow
  dsimp only
  refine ⟨1, ?_⟩
  refine pk_le 7 k (fun h => by omega) (fun _ => bh_br (by omega) (by omega) (fun _ => ⟨di_ixin hk hk, ?_⟩) (fun z => ?_))
  · rw [di_ixcl hk hk]
    exact br_f h0 hp
  · rw [hb] at z; exact absurd z (by decide)
end
/-! the determinant -/
def dt_P (km k : Nat) : List Nat := (List.range k).filter (fun v => km.testBit v)
theorem dt_P_mem {km k v : Nat} : v ∈ dt_P km k ↔ (v < k ∧ km.testBit v = true) := by
  unfold dt_P
  rw [List.mem_filter, List.mem_range]
theorem dt_P_nd {km k : Nat} : (dt_P km k).Nodup := List.Pairwise.filter _ List.nodup_range
theorem dt_P_t {km k : Nat} (h : km.testBit k = true) : dt_P km (k + 1) = dt_P km k ++ [k] := by
  unfold dt_P
  rw [List.range_succ, List.filter_append, List.filter_cons_of_pos h]
  rfl
theorem dt_P_f {km k : Nat} (h : km.testBit k = false) : dt_P km (k + 1) = dt_P km k := by
  unfold dt_P
  rw [List.range_succ, List.filter_append, List.filter_cons_of_neg (by rw [h]; decide), List.filter_nil, List.append_nil]
section
variable {A B : Nat → Nat} {km : Nat}
theorem dt_An (hA : ka_An A B 12 (dt_P km 7)) {k : Nat} (hk : k ≤ 7) : ka_An A B 12 (dt_P km k) := ka_An_sub (fun v hv => dt_P_mem.mpr ⟨by have := (dt_P_mem.mp hv).1; omega, (dt_P_mem.mp hv).2⟩) hA
theorem dt_T (hA : ka_An A B 12 (dt_P km 7)) {k : Nat} (hk : k ≤ 7) : 1 ≤ ka_T A B 12 (dt_P km k) ∧ ka_T A B 12 (dt_P km k) ≤ 4096 := by
  have h1 := ka_T_pos (A := A) (B := B) (n := 12) (dt_P km k).reverse (by rw [List.reverse_reverse]; exact dt_P_nd) (by rw [List.reverse_reverse]; exact dt_An hA hk)
  rw [List.reverse_reverse] at h1
  have h2 := kc_T_le (A := A) (B := B) (n := 12) (dt_P_nd (km := km) (k := k))
  exact ⟨h1, h2⟩
theorem dt_t {P : List Nat} (nd : P.Nodup) {i j : Nat} (hi : ¬ i ∈ P) : -4096 ≤ ka_t A B 12 P i j ∧ ka_t A B 12 P i j ≤ 4096 := by
  have nd' : (P ++ [i]).Nodup := by
    rw [List.nodup_append]
    refine ⟨nd, by simp, fun a ha b hb e => ?_⟩
    rw [List.mem_singleton.mp hb] at e
    rw [e] at ha
    exact hi ha
  have h1 := kc_T_le (A := A) (B := B) (n := 12) nd'
  have h2 := ka_T_nn (A := A) (B := B) (n := 12) (P ++ [i])
  have h3 : (2 : Int) ^ 12 = 4096 := by decide
  by_cases hij : i = j
  · subst hij
    rw [ka_T_app hi] at h1 h2
    omega
  · have := ka_t_bd (A := A) (B := B) (n := 12) hi hij
    omega
/-- one entry of the next table -/
theorem dt_step (hA : ka_An A B 12 (dt_P km 7)) {k i j : Nat} (hk : k < 7) (hb : km.testBit k = true) (hi : k < i) (hj : k < j) :
    (di_I (ka_t A B 12 (dt_P km k) i j) * di_I (ka_T A B 12 (dt_P km (k + 1))) - di_I (ka_t A B 12 (dt_P km k) i k) * di_I (ka_t A B 12 (dt_P km k) k j)) / di_I (ka_T A B 12 (dt_P km k)) = di_I (ka_t A B 12 (dt_P km (k + 1)) i j) := by
  have hT := dt_T hA (k := k) (by omega)
  have nin : ∀ x, k < x → ¬ x ∈ dt_P km (k + 1) := fun x hx z => by have := (dt_P_mem.mp z).1; omega
  have ht := dt_t (A := A) (B := B) (j := j) (dt_P_nd (km := km) (k := k + 1)) (nin i hi)
  have e1 : di_I (ka_t A B 12 (dt_P km k) i j) * di_I (ka_T A B 12 (dt_P km (k + 1))) - di_I (ka_t A B 12 (dt_P km k) i k) * di_I (ka_t A B 12 (dt_P km k) k j) = di_I (ka_t A B 12 (dt_P km k) i j * ka_T A B 12 (dt_P km (k + 1)) - ka_t A B 12 (dt_P km k) i k * ka_t A B 12 (dt_P km k) k j) := by
    unfold di_I
    rw [Int32.ofInt_sub, Int32.ofInt_mul, Int32.ofInt_mul]
  have e2 : ka_t A B 12 (dt_P km k) i j * ka_T A B 12 (dt_P km (k + 1)) - ka_t A B 12 (dt_P km k) i k * ka_t A B 12 (dt_P km k) k j = ka_T A B 12 (dt_P km k) * ka_t A B 12 (dt_P km (k + 1)) i j := by
    have hst := ka_step (A := A) (B := B) (n := 12) (P := dt_P km k) (p := k) (by rw [← dt_P_t hb]; exact dt_P_nd) (by rw [← dt_P_t hb]; exact dt_An hA (by omega)) (i := i) (j := j) (by rw [← dt_P_t hb]; exact nin j hj)
    rw [← dt_P_t hb] at hst
    rw [hst, Int.mul_comm (ka_t A B 12 (dt_P km k) i j)]
  rw [e1, e2]
  exact di_div hT.1 hT.2 ht.1 ht.2
def dt_I (A B : Nat → Nat) (km k : Nat) (tb : Nat → Int32) : Prop := ∀ i j, k ≤ i → k ≤ j → i < 7 → j < 7 → km.testBit i = true → km.testBit j = true → tb (i * 7 + j) = di_I (ka_t A B 12 (dt_P km k) i j)
variable {f_edges f_ready f_connected f_tree f_treeCost : Int32} {a_endU a_endV a_weights a_on a_wayUp a_part a_order a_table : Nat → Int32}
theorem xw_det65 {post : Int32 → SX → Prop} {J4 : Int32 → Int32 → Int32 → Int32 → Int32 → Int32 → Int32 → (Nat → Int32) → (Nat → Int32) → (Nat → Int32) → (Nat → Int32) → (Nat → Int32) → (Nat → Int32) → (Nat → Int32) → (Nat → Int32) → Prop} {k : Nat} {tb0 : Nat → Int32} (hA : ka_An A B 12 (dt_P km 7)) (hkm : km < 128) (hk : k < 7) (hb : km.testBit k = true) (h0 : dt_I A B km k tb0)
    (hJ : ∀ tb, dt_I A B km (k + 1) tb → J4 (di_I (ka_T A B 12 (dt_P km (k + 1)))) (nI (k + 1)) f_edges f_ready f_connected f_tree f_treeCost a_endU a_endV a_weights a_on a_wayUp a_part a_order tb) :
    ∀ n row tb, k < row → row ≤ 7 → 7 - row < n → (∀ i j, i < 7 → j < 7 → (i = k ∨ row ≤ i) → tb (i * 7 + j) = tb0 (i * 7 + j)) → (∀ i j, k < i → i < row → k < j → j < 7 → km.testBit i = true → km.testBit j = true → tb (i * 7 + j) = di_I (ka_t A B 12 (dt_P km (k + 1)) i j)) →
    wX_determinant_65 post J4 (nI km) (di_I (ka_T A B 12 (dt_P km k))) (nI k) (di_I (ka_T A B 12 (dt_P km (k + 1)))) n (nI row) f_edges f_ready f_connected f_tree f_treeCost a_endU a_endV a_weights a_on a_wayUp a_part a_order tb := by
  have hT := dt_T hA (k := k) (by omega)
  intro n
  induction n with
  | zero => intro row tb _ _ h; exact absurd h (Nat.not_lt_zero _)
  | succ n ih =>
    intro row tb hkr hr7 hn h1 h2
    refine pk_le 7 row (fun h => ?_) (fun h => ?_)
    · refine nm_r (nI_1 k) (hJ tb (fun i j hi hj hi7 hj7 bi bj => h2 i j (by omega) (by omega) (by omega) hj7 bi bj))
    · refine bh_br (by omega) (by omega) (fun hbr => ?_) (fun hbr => ?_)
      · refine xw_elim h hk (by omega) (di_ne hT.1 hT.2) (fun tb' g1 g2 => ?_)
        refine nm_r (nI_1 row) (ih (row + 1) tb' (by omega) (by omega) (by omega) (fun i j hi hj hik => ?_) (fun i j hi hir hj hj7 bi bj => ?_))
        · rw [g2 i j hi hj (by omega)]
          exact h1 i j hi hj (by omega)
        · by_cases hir' : i = row
          · subst hir'
            rw [g1 j (by omega) hj7, h1 i j h hj7 (Or.inr (Nat.le_refl _)), h1 i k h hk (Or.inr (Nat.le_refl _)), h1 k j hk hj7 (Or.inl rfl), h0 i j (by omega) (by omega) h hj7 bi bj, h0 i k (by omega) (Nat.le_refl _) h hk bi hb, h0 k j (Nat.le_refl _) (by omega) hk hj7 hb bj]
            exact dt_step hA hk hb hi hj
          · rw [g2 i j (by omega) hj7 hir']
            exact h2 i j hi (by omega) hj hj7 bi bj
      · refine nm_r (nI_1 row) (ih (row + 1) tb (by omega) (by omega) (by omega) (fun i j hi hj hik => h1 i j hi hj (by omega)) (fun i j hi hir hj hj7 bi bj => ?_))
        by_cases hir' : i = row
        · rw [hir', hbr] at bi; exact absurd bi (by decide)
        · exact h2 i j hi (by omega) hj hj7 bi bj
theorem xw_det4 {post : Int32 → SX → Prop} (hA : ka_An A B 12 (dt_P km 7)) (hkm : km < 128) (hp : ∀ tb, post (di_I (ka_T A B 12 (dt_P km 7))) (f_edges, f_ready, f_connected, f_tree, f_treeCost, a_endU, a_endV, a_weights, a_on, a_wayUp, a_part, a_order, tb)) :
    ∀ n k tb, k ≤ 7 → 7 - k < n → dt_I A B km k tb → wX_determinant_4 post (nI km) n (di_I (ka_T A B 12 (dt_P km k))) (nI k) f_edges f_ready f_connected f_tree f_treeCost a_endU a_endV a_weights a_on a_wayUp a_part a_order tb := by
  intro n
  induction n with
  | zero => intro k tb _ h; exact absurd h (Nat.not_lt_zero _)
  | succ n ih =>
    intro k tb hk hn hI
    refine pk_le 7 k (fun h => ?_) (fun h => ?_)
    · have e1 : k = 7 := by omega
      subst e1
      have hT := dt_T hA (k := 7) (by omega)
      exact br_t (di_nn (by omega) hT.2) (hp tb)
    · refine bh_br (by omega) (by omega) (fun hb => ?_) (fun hb => ?_)
      · have hT' := dt_T hA (k := k + 1) (by omega)
        have nin : ¬ k ∈ dt_P km k := fun z => by have := (dt_P_mem.mp z).1; omega
        have epv : tb (k * 7 + k) = di_I (ka_T A B 12 (dt_P km (k + 1))) := by
          rw [hI k k (Nat.le_refl _) (Nat.le_refl _) h h hb hb, dt_P_t hb, ka_T_app nin]
        refine xw_pivot h hkm hb (by rw [epv]; exact di_ne hT'.1 hT'.2) ?_
        refine br_t (nI_pos' (by omega)) (br_t rfl ?_)
        refine ⟨di_ixin h h, nm_r (e' := di_I (ka_T A B 12 (dt_P km (k + 1)))) (by rw [di_ixcl h h]; exact epv) (nm_r (nI_1 k) ⟨8, ?_⟩)⟩
        exact xw_det65 hA hkm h hb hI (fun tb' h' => ih (k + 1) tb' (by omega) (by omega) h') 8 (k + 1) tb (by omega) (by omega) (by omega) (fun _ _ _ _ _ => rfl) (fun i j h1 h2 => by omega)
      · rw [← dt_P_f hb]
        refine nm_r (nI_1 k) (ih (k + 1) tb (by omega) (by omega) (fun i j hi hj hi7 hj7 bi bj => ?_))
        rw [dt_P_f hb]
        exact hI i j (by omega) (by omega) hi7 hj7 bi bj
theorem xw_det {post : Int32 → SX → Prop} (hA : ka_An A B 12 (dt_P km 7)) (hkm : km < 128) (hM : ∀ i j, i < 7 → j < 7 → a_table (i * 7 + j) = di_I (ka_t A B 12 [] i j)) (hp : ∀ tb, post (di_I (ka_T A B 12 (dt_P km 7))) (f_edges, f_ready, f_connected, f_tree, f_treeCost, a_endU, a_endV, a_weights, a_on, a_wayUp, a_part, a_order, tb)) : wpX_determinant post (f_edges, f_ready, f_connected, f_tree, f_treeCost, a_endU, a_endV, a_weights, a_on, a_wayUp, a_part, a_order, a_table) (nI km) :=
  ⟨8, xw_det4 hA hkm hp 8 0 a_table (by omega) (by omega) (fun i j _ _ hi hj _ _ => hM i j hi hj)⟩
end
end
section
/-! ===== the component's counts ===== -/
theorem la_0 {A B : Nat → Nat} {i j : Nat} : ka_t A B 0 [] i j = 0 := rfl
theorem la_s {A B : Nat → Nat} {e i j : Nat} : ka_t A B (e + 1) [] i j = ka_t A B e [] i j + en_d (A e) (B e) i j := rfl
theorem en_loop {a i j : Nat} : en_d a a i j = 0 := by
  unfold en_d
  by_cases h : a = i
  · subst h
    rw [if_pos rfl]
    omega
  · rw [if_neg h]; rfl
theorem la_ext {A B : Nat → Nat} {n : Nat} (h : ∀ e, n ≤ e → A e = B e) (i j : Nat) : ∀ m, n ≤ m → ka_t A B m [] i j = ka_t A B n [] i j := by
  intro m
  induction m with
  | zero => intro hm; have : n = 0 := by omega
            rw [this]
  | succ m ih =>
    intro hm
    by_cases hmn : n = m + 1
    · rw [hmn]
    · rw [la_s, ih (by omega), h m (by omega), en_loop, Int.add_zero]
theorem rl_act_n {n : Nat} {O : Nat → Bool} {e : Nat} (h : n ≤ e) : rl_act n O e = false := by
  unfold rl_act
  rw [decide_eq_false (by omega)]
  rfl
section
variable {n : Nat} {U V W : Nat → Nat} {O : Nat → Bool} {f_ready f_connected f_tree f_treeCost : Int32} {a_wayUp a_part a_order a_table : Nat → Int32}
theorem xw_ct6 {post : Int32 → SX → Prop} (hG : rl_G n U V W) (hA : ka_An (wt_E (rl_act n O) U) (wt_E (rl_act n O) V) 12 [1, 2, 3, 4, 5, 6]) (hp : ∀ tb, post (di_I (ka_T (wt_E (rl_act n O) U) (wt_E (rl_act n O) V) 12 [1, 2, 3, 4, 5, 6])) (nI n, f_ready, f_connected, f_tree, f_treeCost, ar_N U, ar_N V, ar_N W, ar_B O, a_wayUp, a_part, a_order, tb)) :
    ∀ k e tb, e ≤ n → n - e < k → (∀ i j, i < 7 → j < 7 → tb (i * 7 + j) = di_I (ka_t (wt_E (rl_act n O) U) (wt_E (rl_act n O) V) e [] i j)) → wX_countTrees_6 post k (nI e) (nI n) f_ready f_connected f_tree f_treeCost (ar_N U) (ar_N V) (ar_N W) (ar_B O) a_wayUp a_part a_order tb := by
  have hn := hG.1
  have e6 : dt_P 126 7 = [1, 2, 3, 4, 5, 6] := by decide
  intro k
  induction k with
  | zero => intro e tb _ h; exact absurd h (Nat.not_lt_zero _)
  | succ k ih =>
    intro e tb he hk hI
    refine pk_le n e (fun h => ?_) (fun h => ⟨vp_in_nI (by omega) (by omega), ?_⟩)
    · have e1 : e = n := by omega
      subst e1
      refine xw_det (A := wt_E (rl_act e O) U) (B := wt_E (rl_act e O) V) (km := 126) (by rw [e6]; exact hA) (by omega) (fun i j hi hj => ?_) (fun tb' => ?_)
      · rw [hI i j hi hj, la_ext (n := e) (fun x hx => by rw [wt_E_f (rl_act_n hx), wt_E_f (rl_act_n hx)]) i j 12 hn]
      · rw [e6]
        exact hp tb'
    · rw [nI_clamp (show e < 2 ^ 31 by omega)]
      refine ar_B0 (fun ho => ?_) (fun ho => ⟨vp_in_nI (by omega) (by omega), vp_in_nI (by omega) (by omega), ?_⟩)
      · refine nm_r (nI_1 e) (ih (e + 1) tb (by omega) (by omega) (fun i j hi hj => ?_))
        have ha : rl_act n O e = false := by unfold rl_act; rw [ho, Bool.and_false]
        rw [la_s, wt_E_f ha, wt_E_f ha, en_loop, Int.add_zero]
        exact hI i j hi hj
      · have ha := cx_on h ho
        refine xw_enter (a := U e) (b := V e) (hG.2.1 e) (hG.2.2.1 e) (hG.2.2.2.2 e h) hI (fun tb' h' => ?_)
        refine nm_r (nI_1 e) (ih (e + 1) tb' (by omega) (by omega) (fun i j hi hj => ?_))
        rw [la_s, wt_E_t ha, wt_E_t ha]
        exact h' i j hi hj
theorem xw_ct {post : Int32 → SX → Prop} (hG : rl_G n U V W) (hA : ka_An (wt_E (rl_act n O) U) (wt_E (rl_act n O) V) 12 [1, 2, 3, 4, 5, 6]) (hp : ∀ tb, post (di_I (ka_T (wt_E (rl_act n O) U) (wt_E (rl_act n O) V) 12 [1, 2, 3, 4, 5, 6])) (nI n, f_ready, f_connected, f_tree, f_treeCost, ar_N U, ar_N V, ar_N W, ar_B O, a_wayUp, a_part, a_order, tb)) : wpX_countTrees post (nI n, f_ready, f_connected, f_tree, f_treeCost, ar_N U, ar_N V, ar_N W, ar_B O, a_wayUp, a_part, a_order, a_table) := by
  unfold wpX_countTrees
  refine xw_clear (fun tb h => ?_)
  refine ⟨n + 1, xw_ct6 hG hA hp (n + 1) 0 tb (by omega) (by omega) (fun i j hi hj => ?_)⟩
  rw [h _ (by omega), la_0]
  rfl
/-! one weight -/
def cw_D (act : Nat → Bool) (W : Nat → Nat) (w i : Nat) : Nat → Bool := fun e => act e && (decide (W e < w) || (decide (W e = w) && decide (e < i)))
theorem jl_congr {D D' : Nat → Bool} {q : Nat → Nat} (h : ∀ e, e < 12 → D e = D' e) (H : jl_L U V D q) : jl_L U V D' q := by
  refine ⟨H.1, H.2.1, fun e he hd => H.2.2.1 e he (by rw [h e he]; exact hd), fun c hc => H.2.2.2 c (fun e he hd => hc e he (by rw [← h e he]; exact hd))⟩
theorem jl_same {D : Nat → Bool} {q : Nat → Nat} {e : Nat} (H : jl_L U V D q) (hq : q (U e) = q (V e)) : jl_L U V (kc_ins e D) q := by
  refine ⟨H.1, H.2.1, fun f hf hd => ?_, fun c hc => H.2.2.2 c (fun f hf hd => hc f hf ?_)⟩
  · by_cases hfe : f = e
    · rw [hfe]; exact hq
    · rw [kc_ins_n hfe] at hd; exact H.2.2.1 f hf hd
  · by_cases hfe : f = e
    · rw [hfe]; exact kc_ins_s
    · rw [kc_ins_n hfe]; exact hd
theorem cw_0 {act : Nat → Bool} {w : Nat} {q : Nat → Nat} (H : wt_L act U V W w q) : jl_L U V (cw_D act W w 0) q := by
  have e : ∀ e, cw_D act W w 0 e = true ↔ (act e = true ∧ W e < w) := by
    intro e
    unfold cw_D
    rw [decide_eq_false (Nat.not_lt_zero e), Bool.and_false, Bool.or_false, Bool.and_eq_true, decide_eq_true_eq]
  refine ⟨H.1, H.2.1, fun f hf hd => H.2.2.1 f hf ((e f).mp hd).1 ((e f).mp hd).2, fun c hc => H.2.2.2 c (fun f hf h1 h2 => hc f hf ((e f).mpr ⟨h1, h2⟩))⟩
theorem cw_n {w : Nat} {q : Nat → Nat} (H : jl_L U V (cw_D (rl_act n O) W w n) q) : wt_L (rl_act n O) U V W (w + 1) q := by
  have e : ∀ e, cw_D (rl_act n O) W w n e = true ↔ (rl_act n O e = true ∧ W e < w + 1) := by
    intro e
    unfold cw_D
    rw [Bool.and_eq_true, Bool.or_eq_true, Bool.and_eq_true, decide_eq_true_eq, decide_eq_true_eq, decide_eq_true_eq]
    constructor
    · intro z; exact ⟨z.1, by omega⟩
    · intro z
      have hen : e < n := by
        have := z.1
        unfold rl_act at this
        rw [Bool.and_eq_true, decide_eq_true_eq] at this
        exact this.1
      exact ⟨z.1, by omega⟩
  refine ⟨H.1, H.2.1, fun f hf h1 h2 => H.2.2.1 f hf ((e f).mpr ⟨h1, h2⟩), fun c hc => H.2.2.2 c (fun f hf hd => hc f hf ((e f).mp hd).1 ((e f).mp hd).2)⟩
theorem cw_skip {act : Nat → Bool} {w i : Nat} (h : act i = false ∨ W i ≠ w) : ∀ e, e < 12 → cw_D act W w i e = cw_D act W w (i + 1) e := by
  intro e _
  unfold cw_D
  by_cases hei : e = i
  · subst hei
    rcases h with h | h
    · rw [h]; rfl
    · rw [decide_eq_false h, Bool.false_and, Bool.false_and]
  · by_cases hl : e < i
    · rw [decide_eq_true hl, decide_eq_true (show e < i + 1 by omega)]
    · rw [decide_eq_false hl, decide_eq_false (show ¬ e < i + 1 by omega)]
theorem cw_take {act : Nat → Bool} {w i : Nat} (h : act i = true) (hw : W i = w) : ∀ e, e < 12 → kc_ins i (cw_D act W w i) e = cw_D act W w (i + 1) e := by
  intro e _
  by_cases hei : e = i
  · subst hei
    rw [kc_ins_s]
    unfold cw_D
    rw [h, decide_eq_true hw, decide_eq_true (show e < e + 1 by omega), Bool.true_and, Bool.true_and, Bool.or_true]
  · rw [kc_ins_n hei]
    unfold cw_D
    by_cases hl : e < i
    · rw [decide_eq_true hl, decide_eq_true (show e < i + 1 by omega)]
    · rw [decide_eq_false hl, decide_eq_false (show ¬ e < i + 1 by omega)]
/-- the names given up since q -/
def cw_K (q q' : Nat → Nat) (km : Nat) : Prop := km < 128 ∧ ∀ v, v < 7 → km.testBit v = wt_k q q' v
theorem cw_KP {q q' : Nat → Nat} {km : Nat} (h : cw_K q q' km) : dt_P km 7 = wt_K q q' := by
  unfold dt_P wt_K
  refine List.filter_congr (fun v hv => ?_)
  exact h.2 v (List.mem_range.mp hv)
theorem xw_jfc {post : Int32 → SX → Prop} {q : Nat → Nat} {e : Nat} (hG : rl_G n U V W) (he : e < 12) (hq : ∀ j, j < 7 → q j < 7) (hpt : ∀ j, j < 7 → a_part j = nI (q j)) (h0 : q (U e) = q (V e) → post 0 (nI n, f_ready, f_connected, f_tree, f_treeCost, ar_N U, ar_N V, ar_N W, ar_B O, a_wayUp, a_part, a_order, a_table)) (h1 : q (U e) ≠ q (V e) → ∀ pt : Nat → Int32, (∀ j, j < 7 → pt j = nI (xj_p q (q (U e)) (q (V e)) j)) → post (nI (2 ^ q (V e))) (nI n, f_ready, f_connected, f_tree, f_treeCost, ar_N U, ar_N V, ar_N W, ar_B O, a_wayUp, pt, a_order, a_table)) : wpX_joinForCount post (nI n, f_ready, f_connected, f_tree, f_treeCost, ar_N U, ar_N V, ar_N W, ar_B O, a_wayUp, a_part, a_order, a_table) (nI e) := by
  have hu := hG.2.1 e
  have hv := hG.2.2.1 e
  have q1 := hq _ hu
  have q2 := hq _ hv
  unfold wpX_joinForCount
  dsimp only
  rw [nI_clamp (show e < 2 ^ 31 by omega), show ar_N U e = nI (U e) from rfl, show ar_N V e = nI (V e) from rfl, nI_clamp (show U e < 2 ^ 31 by omega), nI_clamp (show V e < 2 ^ 31 by omega), hpt _ hu, hpt _ hv]
  refine ⟨vp_in_nI he (by omega), vp_in_nI hu (by omega), nm_e ⟨vp_in_nI he (by omega), vp_in_nI hv (by omega), nm_e (pk_eq (q (U e)) (q (V e)) h0 (fun z => ?_))⟩⟩
  refine xw_join q2 hq hpt (fun pt hpt' => ?_)
  rw [bh_sh (by omega)]
  exact h1 z pt hpt'
theorem xw_cw94 {post : Int32 → SX → Prop} {w : Nat} {q : Nat → Nat} (hG : rl_G n U V W) (hw : w ≤ 20) (hL : wt_L (rl_act n O) U V W w q)
    (hM : ∀ i j, i < 7 → j < 7 → a_table (i * 7 + j) = di_I (ka_t (wt_E (wt_D (rl_act n O) W w) (fun e => q (U e))) (wt_E (wt_D (rl_act n O) W w) (fun e => q (V e))) 12 [] i j))
    (hp : ∀ (q' : Nat → Nat) (pt tb : Nat → Int32), wt_L (rl_act n O) U V W (w + 1) q' → wt_M q q' → (∀ j, j < 7 → pt j = nI (q' j)) → post (di_I (ka_T (wt_E (wt_D (rl_act n O) W w) (fun e => q (U e))) (wt_E (wt_D (rl_act n O) W w) (fun e => q (V e))) 12 (wt_K q q'))) (nI n, f_ready, f_connected, f_tree, f_treeCost, ar_N U, ar_N V, ar_N W, ar_B O, a_wayUp, pt, a_order, tb)) :
    ∀ k e km q' pt, e ≤ n → n - e < k → jl_L U V (cw_D (rl_act n O) W w e) q' → wt_M q q' → cw_K q q' km → (∀ j, j < 7 → pt j = nI (q' j)) → wX_countWeight_94 post (nI w) k (nI km) (nI e) (nI n) f_ready f_connected f_tree f_treeCost (ar_N U) (ar_N V) (ar_N W) (ar_B O) a_wayUp pt a_order a_table := by
  have hn := hG.1
  intro k
  induction k with
  | zero => intro e km q' pt _ h; exact absurd h (Nat.not_lt_zero _)
  | succ k ih =>
    intro e km q' pt he hk hJ hMq hK hpt
    refine pk_le n e (fun h => ?_) (fun h => ⟨vp_in_nI (by omega) (by omega), ?_⟩)
    · have e1 : e = n := by omega
      subst e1
      have hL' := cw_n hJ
      have hkm := hK.1
      have hA : ka_An (wt_E (wt_D (rl_act e O) W w) (fun e => q (U e))) (wt_E (wt_D (rl_act e O) W w) (fun e => q (V e))) 12 (wt_K q q') := by
        have := wt_An (S := fun _ => true) (rl_V hG) hL hL' hMq (fun c h1 h2 f hf ha hwf => by
          by_cases z : W f < w
          · exact h1 f hf ha z
          · exact h2 f hf rfl ha (by omega))
        exact fun c hc => this c (fun f hf _ => hc f hf)
      refine xw_det (km := km) (by rw [cw_KP hK]; exact hA) hkm hM (fun tb => ?_)
      rw [cw_KP hK]
      exact hp q' pt tb hL' hMq hpt
    · rw [nI_clamp (show e < 2 ^ 31 by omega)]
      have hWe := hG.2.2.2.1 e
      refine ar_B0 (fun ho => ?_) (fun ho => ⟨vp_in_nI (by omega) (by omega), pk_eq (W e) w (fun z => ?_) (fun z => ?_)⟩)
      · have ha : rl_act n O e = false := by unfold rl_act; rw [ho, Bool.and_false]
        exact nm_r (nI_1 e) (ih (e + 1) km q' pt (by omega) (by omega) (jl_congr (cw_skip (Or.inl ha)) hJ) hMq hK hpt)
      · have ha := cx_on h ho
        have hkm := hK.1
        refine xw_jfc hG (by omega) hJ.1 hpt (fun y => ?_) (fun y pt' hpt' => ?_)
        · refine nm_r (e' := nI km) (by rw [← nI_0, bh_or, Nat.or_zero]) (nm_r (nI_1 e) ?_)
          exact ih (e + 1) km q' pt (by omega) (by omega) (jl_congr (cw_take ha z) (jl_same hJ y)) hMq hK hpt
        · obtain ⟨j1, j2, j3⟩ := jl_join hJ (show e < 12 by omega) (hG.2.1 e) (hG.2.2.1 e) y
          have hb7 := hJ.1 _ (hG.2.2.1 e)
          refine nm_r (e' := nI (km ||| 2 ^ q' (V e))) (bh_or _ _) (nm_r (nI_1 e) ?_)
          refine ih (e + 1) _ _ pt' (by omega) (by omega) (jl_congr (cw_take ha z) j1) (fun v hv hx => ?_) ⟨bh_or_lt (k := 7) hkm hb7, fun v hv => ?_⟩ hpt'
          · exact hMq v hv (of_decide_eq_true ((j2 v hv).mpr (Or.inl (decide_eq_true hx))))
          · rw [bh_setj, hK.2 v hv]
            have j2v := j2 v hv
            unfold jl_fx at j2v j3
            unfold wt_k
            by_cases hvb : q' (V e) = v
            · rw [← hvb] at j2v ⊢
              rw [j3, decide_eq_true (show q' (V e) = q' (V e) from rfl), Bool.or_true, decide_eq_true (hMq _ hb7 (of_decide_eq_true (j2v.mpr (Or.inr rfl))))]
              rfl
            · rw [decide_eq_false hvb, Bool.or_false]
              have : decide (q' v = v) = decide (xj_p q' (q' (U e)) (q' (V e)) v = v) := by
                cases hc : decide (xj_p q' (q' (U e)) (q' (V e)) v = v)
                · cases hc2 : decide (q' v = v)
                  · rfl
                  · rcases j2v.mp hc2 with y1 | y1
                    · rw [hc] at y1; exact absurd y1 (by decide)
                    · exact absurd y1.symm hvb
                · exact j2v.mpr (Or.inl hc)
              rw [this]
      · exact nm_r (nI_1 e) (ih (e + 1) km q' pt (by omega) (by omega) (jl_congr (cw_skip (Or.inr z)) hJ) hMq hK hpt)
theorem wt_D_n {w e : Nat} (h : n ≤ e) : wt_D (rl_act n O) W w e = false := by
  unfold wt_D
  rw [rl_act_n h]
  rfl
theorem xw_cw6 {post : Int32 → SX → Prop} {w : Nat} {q : Nat → Nat} (hG : rl_G n U V W) (hw : w ≤ 20) (hL : wt_L (rl_act n O) U V W w q) (hpt : ∀ j, j < 7 → a_part j = nI (q j))
    (hp : ∀ (q' : Nat → Nat) (pt tb : Nat → Int32), wt_L (rl_act n O) U V W (w + 1) q' → wt_M q q' → (∀ j, j < 7 → pt j = nI (q' j)) → post (di_I (ka_T (wt_E (wt_D (rl_act n O) W w) (fun e => q (U e))) (wt_E (wt_D (rl_act n O) W w) (fun e => q (V e))) 12 (wt_K q q'))) (nI n, f_ready, f_connected, f_tree, f_treeCost, ar_N U, ar_N V, ar_N W, ar_B O, a_wayUp, pt, a_order, tb)) :
    ∀ k e tb, e ≤ n → n - e < k → (∀ i j, i < 7 → j < 7 → tb (i * 7 + j) = di_I (ka_t (wt_E (wt_D (rl_act n O) W w) (fun e => q (U e))) (wt_E (wt_D (rl_act n O) W w) (fun e => q (V e))) e [] i j)) → wX_countWeight_6 post (nI w) k (nI e) (nI n) f_ready f_connected f_tree f_treeCost (ar_N U) (ar_N V) (ar_N W) (ar_B O) a_wayUp a_part a_order tb := by
  have hn := hG.1
  intro k
  induction k with
  | zero => intro e tb _ h; exact absurd h (Nat.not_lt_zero _)
  | succ k ih =>
    intro e tb he hk hI
    have skip : wt_E (wt_D (rl_act n O) W w) (fun e => q (U e)) e = wt_E (wt_D (rl_act n O) W w) (fun e => q (V e)) e → e < n → wX_countWeight_6 post (nI w) k (nI (e + 1)) (nI n) f_ready f_connected f_tree f_treeCost (ar_N U) (ar_N V) (ar_N W) (ar_B O) a_wayUp a_part a_order tb := by
      intro hz hen
      refine ih (e + 1) tb (by omega) (by omega) (fun i j hi hj => ?_)
      rw [la_s, hz, en_loop, Int.add_zero]
      exact hI i j hi hj
    refine pk_le n e (fun h => ?_) (fun h => ⟨vp_in_nI (by omega) (by omega), ?_⟩)
    · have e1 : e = n := by omega
      subst e1
      refine ⟨e + 1, xw_cw94 hG hw hL (fun i j hi hj => ?_) hp (e + 1) 0 0 q a_part (by omega) (by omega) (cw_0 hL) (fun _ _ z => z) ⟨by omega, fun v hv => ?_⟩ hpt⟩
      · rw [hI i j hi hj, la_ext (n := e) (fun x hx => by rw [wt_E_f (wt_D_n hx), wt_E_f (wt_D_n hx)]) i j 12 hn]
      · rw [Nat.zero_testBit]
        unfold wt_k
        cases decide (q v = v) <;> rfl
    · rw [nI_clamp (show e < 2 ^ 31 by omega)]
      have hWe := hG.2.2.2.1 e
      have hu := hG.2.1 e
      have hv := hG.2.2.1 e
      have q1 := hL.1 _ hu
      have q2 := hL.1 _ hv
      refine ar_B0 (fun ho => nm_r (nI_1 e) (skip ?_ h)) (fun ho => ⟨vp_in_nI (by omega) (by omega), pk_eq (W e) w (fun z => ?_) (fun z => nm_r (nI_1 e) (skip ?_ h))⟩)
      · have hd : wt_D (rl_act n O) W w e = false := by unfold wt_D rl_act; rw [ho, Bool.and_false, Bool.false_and]
        rw [wt_E_f hd, wt_E_f hd]
      · have hd : wt_D (rl_act n O) W w e = true := by unfold wt_D; rw [cx_on h ho, decide_eq_true z]; rfl
        rw [show ar_N U e = nI (U e) from rfl, show ar_N V e = nI (V e) from rfl, nI_clamp (show U e < 2 ^ 31 by omega), nI_clamp (show V e < 2 ^ 31 by omega), hpt _ hu, hpt _ hv]
        refine ⟨vp_in_nI (by omega) (by omega), vp_in_nI hu (by omega), vp_in_nI (by omega) (by omega), vp_in_nI hv (by omega), pk_eq (q (U e)) (q (V e)) (fun y => nm_r (nI_1 e) (skip ?_ h)) (fun y => ⟨vp_in_nI (by omega) (by omega), vp_in_nI hu (by omega), vp_in_nI (by omega) (by omega), vp_in_nI hv (by omega), ?_⟩)⟩
        · rw [wt_E_t hd, wt_E_t hd]; exact y
        · refine xw_enter (a := q (U e)) (b := q (V e)) q1 q2 y hI (fun tb' h' => ?_)
          refine nm_r (nI_1 e) (ih (e + 1) tb' (by omega) (by omega) (fun i j hi hj => ?_))
          rw [la_s, wt_E_t hd, wt_E_t hd]
          exact h' i j hi hj
      · have hd : wt_D (rl_act n O) W w e = false := by unfold wt_D; rw [decide_eq_false z, Bool.and_false]
        rw [wt_E_f hd, wt_E_f hd]
theorem xw_cw {post : Int32 → SX → Prop} {w : Nat} {q : Nat → Nat} (hG : rl_G n U V W) (hw : w ≤ 20) (hL : wt_L (rl_act n O) U V W w q) (hpt : ∀ j, j < 7 → a_part j = nI (q j))
    (hp : ∀ (q' : Nat → Nat) (pt tb : Nat → Int32), wt_L (rl_act n O) U V W (w + 1) q' → wt_M q q' → (∀ j, j < 7 → pt j = nI (q' j)) → post (di_I (ka_T (wt_E (wt_D (rl_act n O) W w) (fun e => q (U e))) (wt_E (wt_D (rl_act n O) W w) (fun e => q (V e))) 12 (wt_K q q'))) (nI n, f_ready, f_connected, f_tree, f_treeCost, ar_N U, ar_N V, ar_N W, ar_B O, a_wayUp, pt, a_order, tb)) : wpX_countWeight post (nI n, f_ready, f_connected, f_tree, f_treeCost, ar_N U, ar_N V, ar_N W, ar_B O, a_wayUp, a_part, a_order, a_table) (nI w) := by
  unfold wpX_countWeight
  refine xw_clear (fun tb h => ?_)
  refine ⟨n + 1, xw_cw6 hG hw hL hpt hp (n + 1) 0 tb (by omega) (by omega) (fun i j hi hj => ?_)⟩
  rw [h _ (by omega), la_0]
  rfl
/-! all weights -/
def cw_h (act : Nat → Bool) (U V W : Nat → Nat) (q : Nat → Nat → Nat) (w : Nat) : Int := ka_T (wt_E (wt_D act W w) (fun e => q w (U e))) (wt_E (wt_D act W w) (fun e => q w (V e))) 12 (wt_K (q w) (q (w + 1)))
theorem cw_Pc {h h' : Nat → Int} : ∀ m, (∀ w, w < m → h w = h' w) → wt_P h m = wt_P h' m := by
  intro m
  induction m with
  | zero => intro _; rfl
  | succ m ih =>
    intro H
    simp only [wt_P]
    rw [ih (fun w hw => H w (by omega)), H m (by omega)]
def cw_A (act : Nat → Bool) (U V W : Nat → Nat) (m : Nat) (q : Nat → Nat → Nat) : Prop := (∀ v, v < 7 → q 0 v = v) ∧ (∀ w, w ≤ m → wt_L act U V W w (q w)) ∧ (∀ w, w < m → wt_M (q w) (q (w + 1)))
theorem xw_ch21 {post : Int32 → SX → Prop} (hG : rl_G n U V W) (hp : ∀ (q : Nat → Nat → Nat) (pt tb : Nat → Int32), wt_All (rl_act n O) U V W q → post (di_I (wt_P (cw_h (rl_act n O) U V W q) 21)) (nI n, f_ready, f_connected, f_tree, f_treeCost, ar_N U, ar_N V, ar_N W, ar_B O, a_wayUp, pt, a_order, tb)) :
    ∀ k w (q : Nat → Nat → Nat) (pt tb : Nat → Int32), w ≤ 21 → 21 - w < k → cw_A (rl_act n O) U V W w q → (∀ j, j < 7 → pt j = nI (q w j)) → wX_cheapest_21 post k (di_I (wt_P (cw_h (rl_act n O) U V W q) w)) (nI w) (nI n) f_ready f_connected f_tree f_treeCost (ar_N U) (ar_N V) (ar_N W) (ar_B O) a_wayUp pt a_order tb := by
  intro k
  induction k with
  | zero => intro w q pt tb _ h; exact absurd h (Nat.not_lt_zero _)
  | succ k ih =>
    intro w q pt tb hw hk hA hpt
    refine pk_lt 20 w (fun h => ?_) (fun h => ?_)
    · have e1 : w = 21 := by omega
      subst e1
      exact hp q pt tb ⟨hA.1, hA.2.1, hA.2.2⟩
    · refine xw_cw hG h (hA.2.1 w (Nat.le_refl _)) hpt (fun q' pt' tb' g1 g2 g3 => ?_)
      have qn : ∀ x, x ≤ w → (fun x => if x = w + 1 then q' else q x) x = q x := fun x hx => if_neg (by omega)
      have qs : (fun x => if x = w + 1 then q' else q x) (w + 1) = q' := if_pos rfl
      have hA' : cw_A (rl_act n O) U V W (w + 1) (fun x => if x = w + 1 then q' else q x) := by
        refine ⟨fun v hv => ?_, fun x hx => ?_, fun x hx => ?_⟩
        · rw [qn 0 (by omega)]; exact hA.1 v hv
        · by_cases hxw : x = w + 1
          · subst hxw; rw [qs]; exact g1
          · rw [qn x (by omega)]; exact hA.2.1 x (by omega)
        · rw [qn x (by omega)]
          by_cases hxw : x = w
          · subst hxw; rw [qs]; exact g2
          · rw [qn (x + 1) (by omega)]; exact hA.2.2 x (by omega)
      have hx := ih (w + 1) (fun x => if x = w + 1 then q' else q x) pt' tb' (by omega) (by omega) hA' (fun j hj => by rw [if_pos rfl]; exact g3 j hj)
      refine nm_r (e' := di_I (wt_P (cw_h (rl_act n O) U V W (fun x => if x = w + 1 then q' else q x)) (w + 1))) ?_ (nm_r (nI_1 w) hx)
      have e2 : wt_P (cw_h (rl_act n O) U V W (fun x => if x = w + 1 then q' else q x)) (w + 1) = wt_P (cw_h (rl_act n O) U V W q) w * ka_T (wt_E (wt_D (rl_act n O) W w) (fun e => q w (U e))) (wt_E (wt_D (rl_act n O) W w) (fun e => q w (V e))) 12 (wt_K (q w) q') := by
        show wt_P _ w * cw_h _ U V W _ w = _
        congr 1
        · refine cw_Pc w (fun x hx => ?_)
          unfold cw_h
          rw [qn x (by omega), qn (x + 1) (by omega)]
        · unfold cw_h
          rw [qn w (Nat.le_refl _), qs]
      rw [e2]
      exact (Int32.ofInt_mul _ _).symm
theorem wt_L0 : wt_L (rl_act n O) U V W 0 (fun v => v) := ⟨fun v hv => hv, fun v _ => rfl, fun e _ _ z => absurd z (Nat.not_lt_zero _), fun c _ v _ => rfl⟩
theorem cx_conn {t : Nat} {X : Nat → Nat → Bool} {wu : Nat → Int32} (h : cx_C n U V W O t X wu) : ex_Conn (wt_E (rl_act n O) U) (wt_E (rl_act n O) V) 12 (fun _ => true) := fun c hc => h.2.1.2 c (fun e he _ => hc e he rfl)
end
end
section
/-! ===== the component's counts as answers; what the calls that change do ===== -/
theorem sz_none {p : Nat → Bool} : ∀ m, (∀ s, s < m → ¬ p s = true) → kc_size m p = 0 := by
  intro m
  induction m with
  | zero => intro _; rfl
  | succ m ih =>
    intro h
    simp only [kc_size]
    rw [ih (fun s hs => h s (by omega)), if_neg (h m (by omega))]
section
variable {n : Nat} {U V W : Nat → Nat} {O : Nat → Bool}
theorem xq_trees {post : Int32 → SX → Prop} {u : SX} {p : Nat → Bool} (hG : rl_G n U V W) (hu : rl_X n U V W O u) (hpp : ∀ s, s < 4096 → (p s = true ↔ rl_Tr n U V O (fun e => s.testBit e))) (hp : ∀ u', rl_X n U V W O u' → post (nI (kc_size 4096 p)) u') : wpX_trees post u := by
  have hu' := hu
  obtain ⟨rd, cn, tr, tc, wu, pt, od, tb, rfl, hr⟩ := hu'
  unfold wpX_trees
  refine xw_prep2 hG hu (fun tr tc wu pt od tb h => ?_) (fun t X wu pt od tb h => ?_)
  · have := hp _ (xn_back (tr := tr) (tc := tc) (wu := wu) (pt := pt) (od := od) (a_table := tb) h)
    rw [sz_none 4096 (fun s hs z => rl_none h _ ((hpp s hs).mp z)), nI_0] at this
    exact br_t rfl this
  · have hAn := (ex_Conn_An (rl_E hG)).mp (cx_conn h)
    refine br_f (by decide) (xw_ct hG (fun c hc => hAn c (fun e he _ => hc e he)) (fun tb' => ?_))
    have := hp _ (xc_back (pt := pt) (od := od) (a_table := tb') h)
    have e1 : ka_T (wt_E (rl_act n O) U) (wt_E (rl_act n O) V) 12 [1, 2, 3, 4, 5, 6] = ((kc_size 4096 p : Nat) : Int) := by
      have h2 := ms_count 12 p (fun S => rl_Tr n U V O S) hpp
      rw [kc_kirch 12 _ _ _ ex_nd6]
      refine Eq.trans (kc_SS_congr 12 (fun S _ => kb_c ?_)) h2.symm
      unfold kc_Good rl_Tr ex_Tr
      rw [ex_Conn_An (rl_E hG)]
      exact Iff.rfl
    rw [e1, di_nI]
    exact this
theorem xq_cheap {post : Int32 → SX → Prop} {u : SX} {p : Nat → Bool} (hG : rl_G n U V W) (hu : rl_X n U V W O u) (hpp : ∀ s, s < 4096 → (p s = true ↔ (rl_Tr n U V O (fun e => s.testBit e) ∧ ∀ R, rl_Tr n U V O R → ex_cost W 12 (fun e => s.testBit e) ≤ ex_cost W 12 R))) (hp : ∀ u', rl_X n U V W O u' → post (nI (kc_size 4096 p)) u') : wpX_cheapest post u := by
  have hu' := hu
  obtain ⟨rd, cn, tr, tc, wu, pt, od, tb, rfl, hr⟩ := hu'
  unfold wpX_cheapest
  refine xw_prep2 hG hu (fun tr tc wu pt od tb h => ?_) (fun t X wu pt od tb h => ?_)
  · have := hp _ (xn_back (tr := tr) (tc := tc) (wu := wu) (pt := pt) (od := od) (a_table := tb) h)
    rw [sz_none 4096 (fun s hs z => rl_none h _ ((hpp s hs).mp z).1), nI_0] at this
    exact br_t rfl this
  · refine br_f (by decide) (xw_sep (fun pt' hpt' => ?_))
    refine ⟨22, xw_ch21 hG (fun q pt2 tb2 hq => ?_) 22 0 (fun _ v => v) pt' tb (by omega) (by omega) ⟨fun _ _ => rfl, fun w hw => ?_, fun w hw => absurd hw (Nat.not_lt_zero _)⟩ hpt'⟩
    · have := hp _ (xc_back (pt := pt2) (od := od) (a_table := tb2) h)
      have hmin : ∀ R, rl_Tr n U V O R → ex_cost W 12 (fun e => t.testBit e) ≤ ex_cost W 12 R := fun R hR => ex_mn (rl_E hG) h.2.1 h.2.2.1 hR
      have e1 := wt_law (rl_V hG) hq hG.2.2.2.1 (cx_conn h) h.2.1 hmin p (fun s hs => by
        rw [hpp s hs]
        constructor
        · intro z; exact ⟨z.1, Nat.le_antisymm (z.2 _ h.2.1) (hmin _ z.1)⟩
        · intro z; exact ⟨z.1, fun R hR => by rw [z.2]; exact hmin R hR⟩)
      have e2 : wt_P (cw_h (rl_act n O) U V W q) 21 = ((kc_size 4096 p : Nat) : Int) := e1.symm
      rw [e2, di_nI]
      exact this
    · have : w = 0 := by omega
      subst this
      exact wt_L0
theorem xw_badT {post : Int32 → Prop} {x : Int32} {u : SX} (hG : rl_G n U V W) (hu : rl_X n U V W O u) (h : x < 0 ∨ nI n ≤ x) (hp : post 1) : wpX_bad post u x := by
  obtain ⟨rd, cn, tr, tc, wu, pt, od, tb, rfl, hr⟩ := hu
  rcases h with h | h
  · exact br_t h hp
  · exact br_c (fun _ => hp) (fun _ => br_f (Int32.not_lt.mpr h) hp)
theorem yw_badT {post : Int32 → Prop} {x : Int32} {v : SY} (hY : rl_Y n U V W O v) (h : x < 0 ∨ nI n ≤ x) (hp : post 1) : wpY_bad post v x := by
  obtain ⟨m, kn, tr, rfl, hm, hO, hk⟩ := hY
  rcases h with h | h
  · exact br_t h hp
  · exact br_c (fun _ => hp) (fun _ => br_f (Int32.not_lt.mpr h) hp)
theorem xw_outB {post : Int32 → SX → Prop} {u : SX} {x : Int32} (hG : rl_G n U V W) (hu : rl_X n U V W O u) (h : x < 0 ∨ nI n ≤ x) (hp : ∀ u', rl_X n U V W O u' → post 1 u') : wpX_outside post u x := by
  have hu' := hu
  obtain ⟨rd, cn, tr, tc, wu, pt, od, tb, rfl, hr⟩ := hu'
  unfold wpX_outside
  refine xw_prep2 hG hu (fun tr tc wu pt od tb k => ?_) (fun t X wu pt od tb k => ?_)
  · exact xw_badT hG (xn_back k) h (br_f (by decide) (hp _ (xn_back k)))
  · exact xw_badT hG (xc_back k) h (br_f (by decide) (hp _ (xc_back k)))
/-! a fresh picture after a change -/
theorem xm_back {cn tr tc : Int32} {wu pt od tb : Nat → Int32} : rl_X n U V W O (nI n, 0, cn, tr, tc, ar_N U, ar_N V, ar_N W, ar_B O, wu, pt, od, tb) := ⟨0, cn, tr, tc, wu, pt, od, tb, rfl, Or.inl rfl⟩
theorem ym_back {m : Nat} {tr : Nat → Int32} (hm : m < 4096) (hO : ∀ e, m.testBit e = rl_act n O e) : rl_Y n U V W O (nI n, nI m, 0, ar_N U, ar_N V, ar_N W, tr) := ⟨m, 0, tr, rfl, hm, hO, Or.inl rfl⟩
theorem ac_new {m : Nat} (hO : ∀ e, m.testBit e = rl_act n O e) : ∀ e, (m ||| 2 ^ n).testBit e = rl_act (n + 1) (kc_ins n O) e := by
  intro e
  rw [bh_setj, hO]
  unfold rl_act
  by_cases h : n = e
  · subst h
    rw [kc_ins_s, decide_eq_true (show n < n + 1 by omega), decide_eq_true rfl, Bool.or_true]
    rfl
  · rw [kc_ins_n (fun z => h z.symm), decide_eq_false h, Bool.or_false]
    by_cases h2 : e < n
    · rw [decide_eq_true h2, decide_eq_true (show e < n + 1 by omega)]
    · rw [decide_eq_false h2, decide_eq_false (show ¬ e < n + 1 by omega)]
theorem ac_set {m e : Nat} (he : e < n) (hO : ∀ e, m.testBit e = rl_act n O e) : ∀ f, (m ||| 2 ^ e).testBit f = rl_act n (kc_ins e O) f := by
  intro f
  rw [bh_setj, hO]
  unfold rl_act
  by_cases h : e = f
  · subst h
    rw [kc_ins_s, decide_eq_true he, decide_eq_true rfl, Bool.or_true]
    rfl
  · rw [kc_ins_n (fun z => h z.symm), decide_eq_false h, Bool.or_false]
theorem ac_clr {m e : Nat} (hm : m < 4096) (hO : ∀ e, m.testBit e = rl_act n O e) : ∀ f, (m &&& (4095 ^^^ 2 ^ e)).testBit f = rl_act n (ex_del O e) f := by
  intro f
  rw [bh_clrj hm, hO]
  unfold rl_act ex_del
  by_cases h : e = f
  · rw [if_pos h.symm, decide_eq_true h, Bool.and_false, Bool.not_true, Bool.and_false]
  · rw [if_neg (fun z => h z.symm), decide_eq_false h]
    exact Bool.and_true _
theorem ac_drop {m : Nat} (hm : m < 4096) (hO : ∀ e, m.testBit e = rl_act (n + 1) O e) : ∀ f, (m &&& (4095 ^^^ 2 ^ n)).testBit f = rl_act n O f := by
  intro f
  rw [bh_clrj hm, hO]
  unfold rl_act
  by_cases h : n = f
  · subst h
    rw [decide_eq_true (show n = n from rfl), decide_eq_false (Nat.lt_irrefl n), Bool.not_true, Bool.and_false]
    rfl
  · rw [decide_eq_false h]
    by_cases h2 : f < n
    · rw [decide_eq_true h2, decide_eq_true (show f < n + 1 by omega)]
      exact Bool.and_true _
    · rw [decide_eq_false h2, decide_eq_false (show ¬ f < n + 1 by omega)]
      rfl
end
end
section
/-! ===== what is owed ===== -/
/-- both sides stand for one graph -/
def i_Rel (k : Nat) (u : SX) (v : SY) : Prop := ∃ (n : Nat) (U V W : Nat → Nat) (O : Nat → Bool), rl_G n U V W ∧ rl_X n U V W O u ∧ rl_Y n U V W O v
theorem i_up {k : Nat} {u : SX} {v : SY} (h : i_Rel k u v) : i_Rel (k + 4) u v := h
theorem i_vc0 : wpX_init (fun u => wpY_init (fun v => i_Rel 0 u v)) := by
  have e1 : (fun _ => 0 : Nat → Int32) = ar_N (fun _ => 0) := funext (fun _ => nI_0.symm)
  have e2 : (fun _ => 0 : Nat → Int32) = ar_B (fun _ => false) := funext (fun _ => rfl)
  refine ⟨0, fun _ => 0, fun _ => 0, fun _ => 0, fun _ => false, ⟨by omega, fun _ => (by decide : 0 < 7), fun _ => (by decide : 0 < 7), fun _ => (by decide : 0 ≤ 20), fun e he => absurd he (Nat.not_lt_zero _)⟩, ⟨0, 0, 0, 0, fun _ => 0, fun _ => 0, fun _ => 0, fun _ => 0, ?_, Or.inl rfl⟩, ⟨0, 0, fun _ => 0, ?_, by omega, fun e => ?_, Or.inl rfl⟩⟩
  · rw [← e1, ← e2, nI_0]
  · rw [← e1, nI_0]
  · rw [Nat.zero_testBit]
    unfold rl_act
    rw [decide_eq_false (Nat.not_lt_zero _)]
    rfl
theorem ow_vx (x : Int32) : (x < 0 ∨ nI 7 ≤ x) ∨ ∃ a, a < 7 ∧ x = nI a := by
  rcases pk_ix x (n := 7) (by omega) with h | h | h
  · exact Or.inl (Or.inl h)
  · exact Or.inl (Or.inr h)
  · exact Or.inr h
theorem ow_bv {post : Int32 → Prop} {x : Int32} (h : x < 0 ∨ nI 7 ≤ x) (hp : post 1) : wpX_badVertex post x := by
  rcases h with h | h
  · exact br_t h hp
  · exact br_c (fun _ => hp) (fun _ => br_f (Int32.not_lt.mpr h) hp)
theorem ow_gv {post : Int32 → Prop} {a : Nat} (h : a < 7) (hp : post 0) : wpX_badVertex post (nI a) := br_f (nI_pos (by omega)) (br_t (nI_lt (b := 7) h (by omega)) hp)
theorem ow_yv {x : Int32} {P Q : Prop} (h : x < 0 ∨ nI 7 ≤ x) (p : P) : (x < 0 → P) ∧ (¬ x < 0 → ((6 < x → P) ∧ (¬ 6 < x → Q))) := by
  rcases h with h | h
  · exact br_t h p
  · exact br_c (fun _ => p) (fun _ => br_t (Int32.lt_of_lt_of_le (by decide : (6 : Int32) < nI 7) h) p)
theorem ow_yg {a : Nat} {P Q : Prop} (h : a < 7) (q : Q) : (nI a < 0 → P) ∧ (¬ nI a < 0 → ((6 < nI a → P) ∧ (¬ 6 < nI a → Q))) := br_f (nI_pos (by omega)) (br_f (nI_nlt (a := 6) (by omega) (by omega)) q)
theorem i_vc_edge {k : Nat} {u : SX} {v : SY} (I : i_Rel k u v) (hk : k + 4 ≤ 2048) (v1 : Int32) (v2 : Int32) (v3 : Int32) : wpX_edge (fun r u' => wpY_edge (fun r' v' => r' = r ∧ i_Rel (k + 4) u' v') v v1 v2 v3) u v1 v2 v3 := by
  obtain ⟨n, U, V, W, O, hG, hX, hY⟩ := I
  have back : i_Rel (k + 4) u v := ⟨n, U, V, W, O, hG, hX, hY⟩
  obtain ⟨rd, cn, tr, tc, wu, pt, od, tb, rfl, hr⟩ := hX
  obtain ⟨m, kn, tr2, rfl, hm, hO, hkn⟩ := hY
  have hn := hG.1
  unfold wpX_edge wpY_edge
  dsimp only
  rcases ow_vx v1 with h1 | ⟨a, ha, rfl⟩
  · refine ow_bv h1 ?_
    exact br_f (by decide) (ow_yv h1 ⟨rfl, back⟩)
  · refine ow_gv ha ?_
    refine br_t rfl ?_
    rcases ow_vx v2 with h2 | ⟨b, hb, rfl⟩
    · refine ow_bv h2 ?_
      exact br_f (by decide) (ow_yg ha (ow_yv h2 ⟨rfl, back⟩))
    · refine ow_gv hb ?_
      refine br_t rfl (pk_eq a b (fun z => ?_) (fun z => ?_))
      · refine ow_yg ha (ow_yg hb (pk_eq a b (fun _ => ⟨rfl, back⟩) (fun y => absurd z y)))
      · have yy : ∀ {P Q : Prop}, Q → ((nI a = nI b → P) ∧ (¬ nI a = nI b → Q)) := fun q => pk_eq a b (fun y => absurd y z) (fun _ => q)
        by_cases w0 : v3 < 0
        · exact br_t w0 (ow_yg ha (ow_yg hb (yy (br_t w0 ⟨rfl, back⟩))))
        · refine br_f w0 ?_
          by_cases w20 : v3 ≤ 20
          · refine br_t w20 ?_
            obtain ⟨w, hw, rfl⟩ := nI_of2 (M := 20) (n := 20) (by decide) w0 w20
            refine pk_lt n 12 (fun h12 => ?_) (fun h12 => ?_)
            · have hin : vp_in (nI n) 12 := vp_in_nI h12 (by omega)
              have hcl : (nI n).toNatClampNeg = n := nI_clamp (by omega)
              rw [hcl]
              refine ⟨hin, nm_r (ar_upd U n a) ⟨hin, nm_r (ar_upd V n b) ⟨hin, nm_r (ar_upd W n w) ⟨hin, nm_r (ar_upd1 O n) (nm_r (nI_1 n) ?_)⟩⟩⟩⟩
              refine ow_yg ha (ow_yg hb (yy (br_f w0 (br_t w20 (pk_eq n 12 (fun y => by omega) (fun _ => ?_))))))
              refine ⟨hin, nm_r (ar_upd U n a) ⟨hin, nm_r (ar_upd V n b) ⟨hin, nm_r (ar_upd W n w) (nm_r (e' := nI (m ||| 2 ^ n)) (by rw [bh_sh (by omega), bh_or]) (nm_r (nI_1 n) ⟨rfl, ?_⟩))⟩⟩⟩
              refine ⟨n + 1, ar_u U n a, ar_u V n b, ar_u W n w, kc_ins n O, ⟨by omega, fun e => ?_, fun e => ?_, fun e => ?_, fun e he => ?_⟩, xm_back, ym_back (bh_or_lt (k := 12) hm h12) (ac_new hO)⟩
              · unfold ar_u; split
                · exact ha
                · exact hG.2.1 e
              · unfold ar_u; split
                · exact hb
                · exact hG.2.2.1 e
              · unfold ar_u; split
                · exact hw
                · exact hG.2.2.2.1 e
              · unfold ar_u
                by_cases hen : e = n
                · rw [if_pos hen, if_pos hen]; exact z
                · rw [if_neg hen, if_neg hen]; exact hG.2.2.2.2 e (by omega)
            · exact ow_yg ha (ow_yg hb (yy (br_f w0 (br_t w20 (pk_eq n 12 (fun _ => ⟨rfl, back⟩) (fun y => by omega))))))
          · exact br_f w20 (ow_yg ha (ow_yg hb (yy (br_f w0 (br_f w20 ⟨rfl, back⟩)))))
theorem i_vc_weigh {k : Nat} {u : SX} {v : SY} (I : i_Rel k u v) (hk : k + 4 ≤ 2048) (v1 : Int32) (v2 : Int32) : wpX_weigh (fun r u' => wpY_weigh (fun r' v' => r' = r ∧ i_Rel (k + 4) u' v') v v1 v2) u v1 v2 := by
  obtain ⟨n, U, V, W, O, hG, hX, hY⟩ := I
  have back : i_Rel (k + 4) u v := ⟨n, U, V, W, O, hG, hX, hY⟩
  have hX' := hX
  have hY' := hY
  obtain ⟨rd, cn, tr, tc, wu, pt, od, tb, rfl, hr⟩ := hX
  obtain ⟨m, kn, tr2, rfl, hm, hO, hkn⟩ := hY
  have hn := hG.1
  rcases pk_ix v1 (n := n) (by omega) with h | h | ⟨e, he, rfl⟩
  · unfold wpX_weigh wpY_weigh
    refine xw_badT hG hX' (Or.inl h) ?_
    refine br_f (by decide) ?_
    refine yw_badT hY' (Or.inl h) ?_
    exact br_f (by decide) ⟨rfl, back⟩
  · unfold wpX_weigh wpY_weigh
    refine xw_badT hG hX' (Or.inr h) ?_
    refine br_f (by decide) ?_
    refine yw_badT hY' (Or.inr h) ?_
    exact br_f (by decide) ⟨rfl, back⟩
  · refine br_f (nI_pos (by omega)) (br_t (nI_lt he (by omega)) (br_t rfl ?_))
    by_cases w0 : v2 < 0
    · exact br_t w0 (br_f (nI_pos (by omega)) (br_t (nI_lt he (by omega)) (br_t rfl (br_t w0 ⟨rfl, back⟩))))
    · by_cases w20 : v2 ≤ 20
      · obtain ⟨w, hw, rfl⟩ := nI_of2 (M := 20) (n := 20) (by decide) w0 w20
        have hin : vp_in (nI e) 12 := vp_in_nI (by omega) (by omega)
        have hcl : (nI e).toNatClampNeg = e := nI_clamp (by omega)
        refine br_f w0 (br_t w20 ?_)
        rw [hcl]
        refine ⟨hin, nm_e ⟨hin, nm_r (ar_upd W e w) (br_f (nI_pos (by omega)) (br_t (nI_lt he (by omega)) (br_t rfl (br_f w0 (br_t w20 ?_)))))⟩⟩
        rw [hcl]
        refine ⟨hin, nm_e ⟨hin, nm_r (ar_upd W e w) ⟨rfl, ?_⟩⟩⟩
        refine ⟨n, U, V, ar_u W e w, O, ⟨hn, hG.2.1, hG.2.2.1, fun f => ?_, hG.2.2.2.2⟩, xm_back, m, kn, tr2, rfl, hm, hO, hkn⟩
        unfold ar_u; split
        · exact hw
        · exact hG.2.2.2.1 f
      · exact br_f w0 (br_f w20 (br_f (nI_pos (by omega)) (br_t (nI_lt he (by omega)) (br_t rfl (br_f w0 (br_f w20 ⟨rfl, back⟩))))))
theorem i_vc_turn {k : Nat} {u : SX} {v : SY} (I : i_Rel k u v) (hk : k + 4 ≤ 2048) (v1 : Int32) (v2 : Int32) : wpX_turn (fun r u' => wpY_turn (fun r' v' => r' = r ∧ i_Rel (k + 4) u' v') v v1 (lw_bz v2)) u v1 (lw_bz v2) := by
  obtain ⟨n, U, V, W, O, hG, hX, hY⟩ := I
  have back : i_Rel (k + 4) u v := ⟨n, U, V, W, O, hG, hX, hY⟩
  have hX' := hX
  have hY' := hY
  obtain ⟨rd, cn, tr, tc, wu, pt, od, tb, rfl, hr⟩ := hX
  obtain ⟨m, kn, tr2, rfl, hm, hO, hkn⟩ := hY
  have hn := hG.1
  rcases pk_ix v1 (n := n) (by omega) with h | h | ⟨e, he, rfl⟩
  · unfold wpX_turn wpY_turn
    refine xw_badT hG hX' (Or.inl h) ?_
    refine br_f (by decide) ?_
    refine yw_badT hY' (Or.inl h) ?_
    exact br_f (by decide) ⟨rfl, back⟩
  · unfold wpX_turn wpY_turn
    refine xw_badT hG hX' (Or.inr h) ?_
    refine br_f (by decide) ?_
    refine yw_badT hY' (Or.inr h) ?_
    exact br_f (by decide) ⟨rfl, back⟩
  · have hin : vp_in (nI e) 12 := vp_in_nI (by omega) (by omega)
    have hcl : (nI e).toNatClampNeg = e := nI_clamp (by omega)
    have hbit : ((nI m >>> (nI e &&& 31)) &&& 1) = nI (if O e = true then 1 else 0) := by
      rw [bh_bit (by omega) (by omega), hO]
      unfold rl_act
      rw [decide_eq_true he, Bool.true_and]
    have main : ∀ r : Int32, r = nI (if O e = true then 1 else 0) → wX_turn_24 (fun r u' => wpY_turn (fun r' v' => r' = r ∧ i_Rel (k + 4) u' v') (nI n, nI m, kn, ar_N U, ar_N V, ar_N W, tr2) (nI e) (lw_bz v2)) (nI e) (lw_bz v2) r (nI n) rd cn tr tc (ar_N U) (ar_N V) (ar_N W) (ar_B O) wu pt od tb := by
      intro r er
      rcases lw_bz_01 v2 with hb | hb
      · rw [hb]
        refine ⟨hin, ?_⟩
        rw [hcl, ar_nb0]
        refine nm_r (ar_upd0 O e) (br_f (nI_pos (by omega)) (br_t (nI_lt he (by omega)) (br_t rfl ?_)))
        refine nm_r hbit (br_t rfl (nm_r (bh_clr hm (by omega)) ⟨er.symm, ?_⟩))
        exact ⟨n, U, V, W, ex_del O e, hG, xm_back, ym_back (bh_clr_lt hm) (ac_clr hm hO)⟩
      · rw [hb]
        refine ⟨hin, ?_⟩
        rw [hcl, ar_nb1]
        refine nm_r (ar_upd1 O e) (br_f (nI_pos (by omega)) (br_t (nI_lt he (by omega)) (br_t rfl ?_)))
        refine nm_r hbit (br_f (by decide) (nm_r (e' := nI (m ||| 2 ^ e)) (by rw [bh_sh (by omega), bh_or]) ⟨er.symm, ?_⟩))
        exact ⟨n, U, V, W, kc_ins e O, hG, xm_back, ym_back (bh_or_lt (k := 12) hm (by omega)) (ac_set he hO)⟩
    refine br_f (nI_pos (by omega)) (br_t (nI_lt he (by omega)) (br_t rfl ⟨hin, ?_⟩))
    rw [hcl]
    refine ar_B0 (fun ho => main 0 ?_) (fun ho => main 1 ?_)
    · rw [ho]; rfl
    · rw [ho]; rfl
theorem i_vc_drop {k : Nat} {u : SX} {v : SY} (I : i_Rel k u v) (hk : k + 4 ≤ 2048) : wpX_drop (fun r u' => wpY_drop (fun r' v' => r' = r ∧ i_Rel (k + 4) u' v') v) u := by
  obtain ⟨n, U, V, W, O, hG, hX, hY⟩ := I
  have back : i_Rel (k + 4) u v := ⟨n, U, V, W, O, hG, hX, hY⟩
  obtain ⟨rd, cn, tr, tc, wu, pt, od, tb, rfl, hr⟩ := hX
  obtain ⟨m, kn, tr2, rfl, hm, hO, hkn⟩ := hY
  have hn := hG.1
  cases n with
  | zero => exact br_t rfl (br_t rfl ⟨rfl, back⟩)
  | succ n =>
    refine br_f (nI_ne0 (by omega) (by omega)) (nm_r (nI_pred n) ?_)
    refine br_f (nI_ne0 (by omega) (by omega)) (nm_r (nI_pred n) (nm_r (bh_clr hm (by omega)) ⟨rfl, ?_⟩))
    exact ⟨n, U, V, W, O, ⟨by omega, hG.2.1, hG.2.2.1, hG.2.2.2.1, fun e he => hG.2.2.2.2 e (by omega)⟩, xm_back, ym_back (bh_clr_lt hm) (ac_drop hm hO)⟩
theorem i_vc_cost {k : Nat} {u : SX} {v : SY} (I : i_Rel k u v) (hk : k + 4 ≤ 2048) : wpX_cost (fun r u' => wpY_cost (fun r' v' => r' = r ∧ i_Rel (k + 4) u' v') v) u := by
  obtain ⟨n, U, V, W, O, hG, hX, hY⟩ := I
  refine xq_cost hG hX (fun m u' hm hu' => yq_cost hG hY (fun m2 v' hm2 hv' => ⟨?_, n, U, V, W, O, hG, hu', hv'⟩))
  rw [sp_uniq hG hm hm2]
theorem i_vc_cheapest {k : Nat} {u : SX} {v : SY} (I : i_Rel k u v) (hk : k + 4 ≤ 2048) : wpX_cheapest (fun r u' => wpY_cheapest (fun r' v' => r' = r ∧ i_Rel (k + 4) u' v') v) u := by
  obtain ⟨n, U, V, W, O, hG, hX, hY⟩ := I
  obtain ⟨p, hpp⟩ := yw_pick (fun s => rl_Tr n U V O (fun e => s.testBit e) ∧ ∀ R, rl_Tr n U V O R → ex_cost W 12 (fun e => s.testBit e) ≤ ex_cost W 12 R)
  refine xq_cheap hG hX (fun s _ => hpp s) (fun u' hu' => yq_cheap hG hY (fun b p2 v' hb hp2 hv' => ⟨?_, n, U, V, W, O, hG, hu', hv'⟩))
  refine congrArg nI (kc_size_congr 4096 (fun s hs => ?_))
  have iff : p2 s = true ↔ p s = true := by
    rw [hpp s, hp2 s hs]
    rcases hb with ⟨_, h2⟩ | ⟨S, h1, _, h3, h4⟩
    · exact ⟨fun z => absurd trivial (h2 _ z.1), fun z => absurd trivial (h2 _ z.1)⟩
    · constructor
      · intro z; exact ⟨z.1, fun R hR => by rw [z.2, h3]; exact h4 R hR trivial⟩
      · intro z; exact ⟨z.1, by rw [h3]; exact Nat.le_antisymm (z.2 S h1) (h4 _ z.1 trivial)⟩
  cases h1 : p2 s
  · cases h2 : p s
    · rfl
    · rw [iff.mpr h2] at h1; exact absurd h1 (by decide)
  · rw [iff.mp h1]
theorem i_vc_trees {k : Nat} {u : SX} {v : SY} (I : i_Rel k u v) (hk : k + 4 ≤ 2048) : wpX_trees (fun r u' => wpY_trees (fun r' v' => r' = r ∧ i_Rel (k + 4) u' v') v) u := by
  obtain ⟨n, U, V, W, O, hG, hX, hY⟩ := I
  obtain ⟨p, hpp⟩ := yw_pick (fun s => rl_Tr n U V O (fun e => s.testBit e))
  refine xq_trees hG hX (fun s _ => hpp s) (fun u' hu' => yq_trees hG hY (fun p2 v' hp2 hv' => ⟨?_, n, U, V, W, O, hG, hu', hv'⟩))
  refine congrArg nI (kc_size_congr 4096 (fun s hs => ?_))
  have iff : p2 s = true ↔ p s = true := by rw [hpp s, hp2 s hs]
  cases h1 : p2 s
  · cases h2 : p s
    · rfl
    · rw [iff.mpr h2] at h1; exact absurd h1 (by decide)
  · rw [iff.mp h1]
theorem i_vc_inSome {k : Nat} {u : SX} {v : SY} (I : i_Rel k u v) (hk : k + 4 ≤ 2048) (v1 : Int32) : wpX_inSome (fun r u' => wpY_inSome (fun r' v' => r' = r ∧ i_Rel (k + 4) u' v') v v1) u v1 := by
  obtain ⟨n, U, V, W, O, hG, hX, hY⟩ := I
  have hn := hG.1
  have bad : (v1 < 0 ∨ nI n ≤ v1) → wpX_inSome (fun r u' => wpY_inSome (fun r' v' => r' = r ∧ i_Rel (k + 4) u' v') v v1) u v1 := by
    intro h
    have hX' := hX
    obtain ⟨rd, cn, tr, tc, wu, pt, od, tb, rfl, hr⟩ := hX'
    unfold wpX_inSome
    refine xw_outB hG hX h (fun u' hu' => ?_)
    have hu2 := hu'
    obtain ⟨rd, cn, tr, tc, wu, pt, od, tb, rfl, hr⟩ := hu'
    refine br_f (by decide) ?_
    have hY' := hY
    obtain ⟨m, kn, tr2, rfl, hm, hO, hkn⟩ := hY'
    unfold wpY_inSome
    exact yw_badT hY h (br_f (by decide) ⟨rfl, n, U, V, W, O, hG, hu2, hY⟩)
  rcases pk_ix v1 (n := n) (by omega) with h | h | ⟨e, he, rfl⟩
  · exact bad (Or.inl h)
  · exact bad (Or.inr h)
  · refine xq_some he hG hX (fun m me u' h1 h2 hu' => yq_some he hG hY (fun m2 me2 v' h1' h2' hv' => ⟨?_, n, U, V, W, O, hG, hu', hv'⟩))
    rw [sp_uniq hG h1 h1', sp_uniq hG h2 h2']
theorem i_vc_inAll {k : Nat} {u : SX} {v : SY} (I : i_Rel k u v) (hk : k + 4 ≤ 2048) (v1 : Int32) : wpX_inAll (fun r u' => wpY_inAll (fun r' v' => r' = r ∧ i_Rel (k + 4) u' v') v v1) u v1 := by
  obtain ⟨n, U, V, W, O, hG, hX, hY⟩ := I
  have hn := hG.1
  have bad : (v1 < 0 ∨ nI n ≤ v1) → wpX_inAll (fun r u' => wpY_inAll (fun r' v' => r' = r ∧ i_Rel (k + 4) u' v') v v1) u v1 := by
    intro h
    have hX' := hX
    obtain ⟨rd, cn, tr, tc, wu, pt, od, tb, rfl, hr⟩ := hX'
    unfold wpX_inAll
    refine xw_outB hG hX h (fun u' hu' => ?_)
    have hu2 := hu'
    obtain ⟨rd, cn, tr, tc, wu, pt, od, tb, rfl, hr⟩ := hu'
    refine br_f (by decide) ?_
    have hY' := hY
    obtain ⟨m, kn, tr2, rfl, hm, hO, hkn⟩ := hY'
    unfold wpY_inAll
    exact yw_badT hY h (br_f (by decide) ⟨rfl, n, U, V, W, O, hG, hu2, hY⟩)
  rcases pk_ix v1 (n := n) (by omega) with h | h | ⟨e, he, rfl⟩
  · exact bad (Or.inl h)
  · exact bad (Or.inr h)
  · refine xq_all he hG hX (fun m mo u' h1 h2 hu' => yq_all he hG hY (fun m2 mo2 v' h1' h2' hv' => ⟨?_, n, U, V, W, O, hG, hu', hv'⟩))
    rw [sp_uniq hG h1 h1', sp_uniq hG h2 h2']
theorem i_vc_costWith {k : Nat} {u : SX} {v : SY} (I : i_Rel k u v) (hk : k + 4 ≤ 2048) (v1 : Int32) : wpX_costWith (fun r u' => wpY_costWith (fun r' v' => r' = r ∧ i_Rel (k + 4) u' v') v v1) u v1 := by
  obtain ⟨n, U, V, W, O, hG, hX, hY⟩ := I
  have hn := hG.1
  have bad : (v1 < 0 ∨ nI n ≤ v1) → wpX_costWith (fun r u' => wpY_costWith (fun r' v' => r' = r ∧ i_Rel (k + 4) u' v') v v1) u v1 := by
    intro h
    have hX' := hX
    obtain ⟨rd, cn, tr, tc, wu, pt, od, tb, rfl, hr⟩ := hX'
    have hY' := hY
    obtain ⟨m, kn, tr2, rfl, hm, hO, hkn⟩ := hY'
    unfold wpX_costWith
    refine xw_badT hG hX h (br_f (by decide) ?_)
    unfold wpY_costWith
    exact yw_badT hY h (br_f (by decide) ⟨rfl, n, U, V, W, O, hG, hX, hY⟩)
  rcases pk_ix v1 (n := n) (by omega) with h | h | ⟨e, he, rfl⟩
  · exact bad (Or.inl h)
  · exact bad (Or.inr h)
  · refine xq_with he hG hX (fun m u' h1 hu' => yq_with he hG hY (fun m2 v' h1' hv' => ⟨?_, n, U, V, W, O, hG, hu', hv'⟩))
    rw [sp_uniq hG h1 h1']
theorem i_vc_costWithout {k : Nat} {u : SX} {v : SY} (I : i_Rel k u v) (hk : k + 4 ≤ 2048) (v1 : Int32) : wpX_costWithout (fun r u' => wpY_costWithout (fun r' v' => r' = r ∧ i_Rel (k + 4) u' v') v v1) u v1 := by
  obtain ⟨n, U, V, W, O, hG, hX, hY⟩ := I
  have hn := hG.1
  have bad : (v1 < 0 ∨ nI n ≤ v1) → wpX_costWithout (fun r u' => wpY_costWithout (fun r' v' => r' = r ∧ i_Rel (k + 4) u' v') v v1) u v1 := by
    intro h
    have hX' := hX
    obtain ⟨rd, cn, tr, tc, wu, pt, od, tb, rfl, hr⟩ := hX'
    have hY' := hY
    obtain ⟨m, kn, tr2, rfl, hm, hO, hkn⟩ := hY'
    unfold wpX_costWithout
    refine xw_badT hG hX h (br_f (by decide) ?_)
    unfold wpY_costWithout
    exact yw_badT hY h (br_f (by decide) ⟨rfl, n, U, V, W, O, hG, hX, hY⟩)
  rcases pk_ix v1 (n := n) (by omega) with h | h | ⟨e, he, rfl⟩
  · exact bad (Or.inl h)
  · exact bad (Or.inr h)
  · refine xq_wout he hG hX (fun m u' h1 hu' => yq_wout he hG hY (fun m2 v' h1' hv' => ⟨?_, n, U, V, W, O, hG, hu', hv'⟩))
    rw [sp_uniq hG h1 h1']
theorem i_vc_slack {k : Nat} {u : SX} {v : SY} (I : i_Rel k u v) (hk : k + 4 ≤ 2048) (v1 : Int32) : wpX_slack (fun r u' => wpY_slack (fun r' v' => r' = r ∧ i_Rel (k + 4) u' v') v v1) u v1 := by
  obtain ⟨n, U, V, W, O, hG, hX, hY⟩ := I
  have hn := hG.1
  have bad : (v1 < 0 ∨ nI n ≤ v1) → wpX_slack (fun r u' => wpY_slack (fun r' v' => r' = r ∧ i_Rel (k + 4) u' v') v v1) u v1 := by
    intro h
    have hX' := hX
    obtain ⟨rd, cn, tr, tc, wu, pt, od, tb, rfl, hr⟩ := hX'
    have hY' := hY
    obtain ⟨m, kn, tr2, rfl, hm, hO, hkn⟩ := hY'
    unfold wpX_slack
    refine xw_badT hG hX h (br_f (by decide) ?_)
    unfold wpY_slack
    exact yw_badT hY h (br_f (by decide) ⟨rfl, n, U, V, W, O, hG, hX, hY⟩)
  rcases pk_ix v1 (n := n) (by omega) with h | h | ⟨e, he, rfl⟩
  · exact bad (Or.inl h)
  · exact bad (Or.inr h)
  · refine xq_slack he hG hX (fun m me mo u' h1 h2 h3 hu' => yq_slack he hG hY (fun m2 me2 mo2 v' h1' h2' h3' hv' => ⟨?_, n, U, V, W, O, hG, hu', hv'⟩))
    have e1 := sp_uniq hG h1 h1'
    have e2 := sp_uniq hG h2 h2'
    subst e1
    subst e2
    unfold ys_slack
    by_cases hc : m < 100000 ∧ me = m
    · rw [if_pos hc, if_pos hc, sp_uniq hG (h3 hc.2) (h3' hc.2)]
    · rw [if_neg hc, if_neg hc]
theorem i_vc_nextCost {k : Nat} {u : SX} {v : SY} (I : i_Rel k u v) (hk : k + 4 ≤ 2048) : wpX_nextCost (fun r u' => wpY_nextCost (fun r' v' => r' = r ∧ i_Rel (k + 4) u' v') v) u := by
  obtain ⟨n, U, V, W, O, hG, hX, hY⟩ := I
  refine xq_next hG hX (fun b r u' h1 h2 hu' => yq_next hG hY (fun b2 r2 v' h1' h2' hv' => ⟨?_, n, U, V, W, O, hG, hu', hv'⟩))
  have e1 := sp_uniq hG h1 h1'
  subst e1
  rw [sp_uniq hG h2 h2']
theorem i_vc_bottleneck {k : Nat} {u : SX} {v : SY} (I : i_Rel k u v) (hk : k + 4 ≤ 2048) : wpX_bottleneck (fun r u' => wpY_bottleneck (fun r' => r' = r ∧ i_Rel (k + 4) u' v) v) u := by
  obtain ⟨n, U, V, W, O, hG, hX, hY⟩ := I
  exact xq_bott hG hX (fun r u' h1 hu' => yq_bott hG hY (fun r2 h2 => ⟨ys_bn_uniq h2 h1, n, U, V, W, O, hG, hu', hY⟩))
end
