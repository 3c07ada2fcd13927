section
theorem pk_us {f : Nat → Int32} {k : Nat} {x : Int32} : upd f k x k = x := if_pos rfl
theorem pk_un {f : Nat → Int32} {k j : Nat} {x : Int32} (h : j ≠ k) : upd f k x j = f j := if_neg h
theorem pk_sub {a b : Nat} (h : b ≤ a) : nI a - nI b = nI (a - b) := by
  obtain ⟨c, rfl⟩ : ∃ c, a = c + b := ⟨a - b, by omega⟩
  rw [← nI_add, Int32.add_sub_cancel, Nat.add_sub_cancel]
theorem pk_m1 (n : Nat) : nI (n + 1) + (-1) = nI n := by
  rw [← nI_1, Int32.add_assoc, show (1 : Int32) + (-1) = 0 from rfl, Int32.add_zero]
theorem pk_mul (a b : Nat) : nI a * nI b = nI (a * b) := (Int32.ofNat_mul a b).symm
theorem pk_div {a d : Nat} (ha : a < 2 ^ 31) (h0 : 0 < d) (hd : d < 2 ^ 31) : nI a / nI d = nI (a / d) := by
  apply Int32.toInt_inj.mp
  rw [lg_idiv_nonneg (by rw [nI_toInt ha]; omega) (by rw [nI_toInt hd]; omega), nI_toInt ha, nI_toInt hd, nI_toInt (Nat.lt_of_le_of_lt (Nat.div_le_self a d) ha)]
  first | rfl | exact (Int.natCast_ediv _ _).symm
theorem pk_rem {a d : Nat} (ha : a < 2 ^ 31) (h0 : 0 < d) (hd : d < 2 ^ 31) : nI a - nI a / nI d * nI d = nI (a % d) := by
  rw [pk_div ha h0 hd, pk_mul, pk_sub (Nat.div_mul_le_self a d)]
  exact congrArg nI (by have := Nat.div_add_mod' a d; omega)
theorem pk_sub_toInt {a b : Nat} (ha : a < 2 ^ 30) (hb : b < 2 ^ 30) : (nI a - nI b).toInt = (a : Int) - b := by
  rw [Int32.toInt_sub, nI_toInt (by omega), nI_toInt (by omega)]
  exact Int.bmod_eq_of_le (by omega) (by omega)
theorem pk_sneg {a b : Nat} (hb : b < 2 ^ 30) (h : a < b) : nI a - nI b < 0 := by
  rw [Int32.lt_iff_toInt_lt, pk_sub_toInt (by omega) hb, show (0 : Int32).toInt = 0 from by decide]
  omega
theorem pk_ix (x : Int32) {n : Nat} (hn : n < 2 ^ 31) : x < 0 ∨ nI n ≤ x ∨ ∃ j : Nat, j < n ∧ x = nI j := by
  by_cases h : x < 0
  · exact Or.inl h
  · obtain ⟨j, hj, rfl⟩ := nI_of h
    by_cases h2 : j < n
    · exact Or.inr (Or.inr ⟨j, h2, rfl⟩)
    · exact Or.inr (Or.inl (nI_le (by omega) hj))
theorem pk_le {x y : Int32} {A B : Prop} (a b : Nat) (f : a ≤ b → A) (g : b < a → B) (hx : x = nI a := by rfl) (hy : y = nI b := by rfl) (ha : a < 2 ^ 31 := by omega) (hb : b < 2 ^ 31 := by omega) : (x ≤ y → A) ∧ (¬ x ≤ y → B) := by
  subst hx hy
  rw [nI_leI ha hb]
  exact ⟨f, fun z => g (by omega)⟩
theorem pk_lt {x y : Int32} {A B : Prop} (a b : Nat) (f : a < b → A) (g : b ≤ a → B) (hx : x = nI a := by rfl) (hy : y = nI b := by rfl) (ha : a < 2 ^ 31 := by omega) (hb : b < 2 ^ 31 := by omega) : (x < y → A) ∧ (¬ x < y → B) := by
  subst hx hy
  rw [nI_ltI ha hb]
  exact ⟨f, fun z => g (by omega)⟩
theorem pk_eq {x y : Int32} {A B : Prop} (a b : Nat) (f : a = b → A) (g : a ≠ b → B) (hx : x = nI a := by rfl) (hy : y = nI b := by rfl) (ha : a < 2 ^ 31 := by omega) (hb : b < 2 ^ 31 := by omega) : (x = y → A) ∧ (¬ x = y → B) := by
  subst hx hy
  rw [nI_eq ha hb]
  exact ⟨f, g⟩
theorem pk_in {x : Int32} (n N : Nat) (h : n < N) (hx : x = nI n := by rfl) (hN : N < 2 ^ 31 := by omega) : vp_in x N := by
  subst hx
  exact vp_in_nI h hN
theorem pk_cl {x : Int32} (n : Nat) (hx : x = nI n := by rfl) (h : n < 2 ^ 31 := by omega) : x.toNatClampNeg = n := by
  subst hx
  exact nI_clamp h
theorem pk_tn {n : Nat} (h : n < 2 ^ 32) : (nI n).toBitVec.toNat = n := Nat.mod_eq_of_lt h
theorem pk_and (x : Int32) {m : Int32} (k : Nat) (hm : m.toBitVec.toNat = 2 ^ k - 1) : x &&& m = nI (x.toBitVec.toNat % 2 ^ k) := by
  apply Int32.toBitVec_inj.mp
  apply BitVec.eq_of_toNat_eq
  rw [Int32.toBitVec_and, BitVec.toNat_and, hm, Nat.and_two_pow_sub_one_eq_mod]
  show _ = (BitVec.ofNat 32 _).toNat
  rw [BitVec.toNat_ofNat]
  exact (Nat.mod_eq_of_lt (Nat.lt_of_le_of_lt (Nat.mod_le _ _) x.toBitVec.isLt)).symm
theorem pk_andN {n : Nat} (h : n < 2 ^ 32) {m : Int32} (k : Nat) (hm : m.toBitVec.toNat = 2 ^ k - 1) : nI n &&& m = nI (n % 2 ^ k) := by
  rw [pk_and _ k hm, pk_tn h]
theorem pk_andE (x : Int32) {m : Int32} (k : Nat) (hm : m.toBitVec.toNat = 2 ^ k - 1) : ∃ j : Nat, j < 2 ^ k ∧ x &&& m = nI j := ⟨_, Nat.mod_lt _ (Nat.two_pow_pos k), pk_and x k hm⟩
theorem pk_andIn (x : Int32) {m : Int32} (k : Nat) (hm : m.toBitVec.toNat = 2 ^ k - 1) (hk : k ≤ 30) : vp_in (x &&& m) (2 ^ k) := by
  obtain ⟨j, hj, e⟩ := pk_andE x k hm
  rw [e]
  exact vp_in_nI hj (Nat.lt_of_le_of_lt (Nat.pow_le_pow_right (by decide) hk) (by decide))
theorem pk_shl (a s : Int32) (k : Nat) (hs : (s.toBitVec.smod 32).toNat = k) : (a <<< s).toBitVec.toNat = a.toBitVec.toNat * 2 ^ k % 2 ^ 32 := by
  show (a.toBitVec <<< (s.toBitVec.smod 32).toNat).toNat = _
  rw [hs, BitVec.toNat_shiftLeft, Nat.shiftLeft_eq]
theorem pk_shlN {n : Nat} (s : Int32) (k : Nat) (hs : (s.toBitVec.smod 32).toNat = k) (h : n * 2 ^ k < 2 ^ 32) : nI n <<< s = nI (n * 2 ^ k) := by
  apply Int32.toBitVec_inj.mp
  apply BitVec.eq_of_toNat_eq
  have hn : n < 2 ^ 32 := Nat.lt_of_le_of_lt (Nat.le_mul_of_pos_right n (Nat.two_pow_pos k)) h
  rw [pk_shl _ _ k hs, pk_tn hn, pk_tn h, Nat.mod_eq_of_lt h]
theorem pk_shr (a s : Int32) (k : Nat) (hs : (s.toBitVec.smod 32).toNat = k) : (a >>> s).toInt = a.toInt >>> k := by
  show (a.toBitVec.sshiftRight (s.toBitVec.smod 32).toNat).toInt = _
  rw [hs, BitVec.toInt_sshiftRight]
  rfl
theorem pk_shrN {n : Nat} (h : n < 2 ^ 31) (s : Int32) (k : Nat) (hs : (s.toBitVec.smod 32).toNat = k) : nI n >>> s = nI (n / 2 ^ k) := by
  apply Int32.toInt_inj.mp
  have h2 : n / 2 ^ k ≤ n := Nat.div_le_self _ _
  rw [pk_shr _ _ k hs, nI_toInt h, nI_toInt (by omega), Int.shiftRight_eq_div_pow]
  rfl
theorem pk_vb (z : Int32) : vp_nar .byte z.toInt8.toInt32 = z.toInt8.toInt32 := by rw [vp_nar_byte]; simp
theorem pk_least (P : Nat → Prop) (h : ∃ k, P k) : ∃ k, P k ∧ ∀ j, j < k → ¬ P j := by
  obtain ⟨k, hk⟩ := h
  induction k using Nat.strongRecOn with
  | ind k ih =>
    by_cases e : ∃ j, j < k ∧ P j
    · obtain ⟨j, hj, pj⟩ := e
      exact ih j hj pj
    · exact ⟨k, hk, fun j hj pj => e ⟨j, hj, pj⟩⟩
theorem ek_if {c d A B : Prop} (e : c ↔ d) (f : d → A) (g : ¬ d → B) : (c → A) ∧ (¬ c → B) :=
  ⟨fun z => f (e.mp z), fun z => g (fun y => z (e.mpr y))⟩
theorem ek_v {α : Sort _} {P : α → Prop} {a b : α} (e : a = b) (h : P b) : P a := e ▸ h
theorem sb_m1 {p : Nat} (h : 0 < p) : nI p + (-1) = nI (p - 1) := by
  obtain ⟨q, rfl⟩ : ∃ q, p = q + 1 := ⟨p - 1, by omega⟩
  exact pk_m1 q
def bt (x : Int32) (i : Nat) : Bool := x.toBitVec.getLsbD i
theorem b_ext {x y : Int32} (h : ∀ i, i < 32 → bt x i = bt y i) : x = y := Int32.toBitVec_inj.mp (BitVec.eq_of_getLsbD_eq (fun i hi => h i hi))
theorem b_or (x y : Int32) (i : Nat) : bt (x ||| y) i = (bt x i || bt y i) := by unfold bt; rw [Int32.toBitVec_or, BitVec.getLsbD_or]
theorem b_and (x y : Int32) (i : Nat) : bt (x &&& y) i = (bt x i && bt y i) := by unfold bt; rw [Int32.toBitVec_and, BitVec.getLsbD_and]
theorem b_xor (x y : Int32) (i : Nat) : bt (x ^^^ y) i = (bt x i ^^ bt y i) := by unfold bt; rw [Int32.toBitVec_xor, BitVec.getLsbD_xor]
theorem b_big {x : Int32} {i : Nat} (h : 32 ≤ i) : bt x i = false := BitVec.getLsbD_of_ge _ _ h
theorem b_m1 : ∀ i, i < 32 → bt (-1) i = true := by decide +kernel
theorem b_0 (i : Nat) : bt 0 i = false := BitVec.getLsbD_zero
theorem s_l : ∀ n, n < 32 → ((nI n &&& 31).toBitVec.smod 32).toNat = n := by decide +kernel
theorem s_u : ∀ n, n < 32 → (((nI n).toUInt32 &&& Int32.toUInt32 31).toBitVec % 32).toNat = n := by decide +kernel
theorem b_shl (n : Nat) (hn : n < 32) (x : Int32) {i : Nat} (hi : i < 32) : bt (x <<< (nI n &&& 31)) i = (decide (n ≤ i) && bt x (i - n)) := by
  unfold bt
  rw [Int32.toBitVec_shiftLeft]
  show (x.toBitVec <<< ((nI n &&& 31).toBitVec.smod 32).toNat).getLsbD i = _
  rw [s_l n hn, BitVec.getLsbD_shiftLeft]
  rcases Nat.lt_or_ge i n with h | h
  · simp [h, Nat.not_le.mpr h]
  · simp [hi, h, Nat.not_lt.mpr h]
theorem b_sshr (n : Nat) (hn : n < 32) (x : Int32) {i : Nat} (hi : i < 32) : bt (x >>> (nI n &&& 31)) i = if n + i < 32 then bt x (n + i) else bt x 31 := by
  unfold bt
  rw [Int32.toBitVec_shiftRight]
  show (x.toBitVec.sshiftRight ((nI n &&& 31).toBitVec.smod 32).toNat).getLsbD i = _
  rw [s_l n hn, BitVec.getLsbD_sshiftRight, BitVec.msb_eq_getLsbD_last]
  simp [hi]
theorem nx_and (a b : Nat) : nI a &&& nI b = nI (a &&& b) := by
  apply Int32.toBitVec_inj.1
  show BitVec.ofNat 32 a &&& BitVec.ofNat 32 b = BitVec.ofNat 32 (a &&& b)
  apply BitVec.eq_of_getLsbD_eq
  intro i hi
  simp [hi]
theorem ts_nf {x : Bool} (h : ¬ x = false) : x = true := by cases x <;> first | rfl | exact absurd rfl h
theorem ts_nt {x : Bool} (h : ¬ x = true) : x = false := by cases x <;> first | rfl | exact absurd rfl h
theorem wb_of32 (x : Int32) : ∃ n, n < 2 ^ 32 ∧ x = nI n := ⟨x.toBitVec.toNat, x.toBitVec.isLt, Int32.toBitVec_inj.mp (by show _ = BitVec.ofNat 32 _; simp)⟩
end
section
def gx_root (u : SX) : Int32 := u.1
def gx_used (u : SX) : Int32 := u.2.1
def gx_counted (u : SX) : Int32 := u.2.2.1
def gx_sorted (u : SX) : Int32 := u.2.2.2.1
def gx_put (u : SX) : Int32 := u.2.2.2.2.1
def gx_names (u : SX) : Nat → Int32 := u.2.2.2.2.2.1
def gx_values (u : SX) : Nat → Int32 := u.2.2.2.2.2.2.1
def gx_parent (u : SX) : Nat → Int32 := u.2.2.2.2.2.2.2.1
def gx_first (u : SX) : Nat → Int32 := u.2.2.2.2.2.2.2.2.1
def gx_next (u : SX) : Nat → Int32 := u.2.2.2.2.2.2.2.2.2.1
def gx_place (u : SX) : Nat → Int32 := u.2.2.2.2.2.2.2.2.2.2.1
def gx_nodeAt (u : SX) : Nat → Int32 := u.2.2.2.2.2.2.2.2.2.2.2.1
def gx_end (u : SX) : Nat → Int32 := u.2.2.2.2.2.2.2.2.2.2.2.2.1
def gx_up (u : SX) : Nat → Int32 := u.2.2.2.2.2.2.2.2.2.2.2.2.2.1
def gx_children (u : SX) : Nat → Int32 := u.2.2.2.2.2.2.2.2.2.2.2.2.2.2.1
def gx_above (u : SX) : Nat → Int32 := u.2.2.2.2.2.2.2.2.2.2.2.2.2.2.2.1
def gx_named (u : SX) : Nat → Int32 := u.2.2.2.2.2.2.2.2.2.2.2.2.2.2.2.2.1
def gx_valueAt (u : SX) : Nat → Int32 := u.2.2.2.2.2.2.2.2.2.2.2.2.2.2.2.2.2.1
def gx_kinds (u : SX) : Nat → Int32 := u.2.2.2.2.2.2.2.2.2.2.2.2.2.2.2.2.2.2.1
def gx_vals (u : SX) : Nat → Int32 := u.2.2.2.2.2.2.2.2.2.2.2.2.2.2.2.2.2.2.2.1
def gx_types (u : SX) : Nat → Int32 := u.2.2.2.2.2.2.2.2.2.2.2.2.2.2.2.2.2.2.2.2.1
def gx_behind (u : SX) : Nat → Int32 := u.2.2.2.2.2.2.2.2.2.2.2.2.2.2.2.2.2.2.2.2.2.1
def gx_local (u : SX) : Nat → Int32 := u.2.2.2.2.2.2.2.2.2.2.2.2.2.2.2.2.2.2.2.2.2.2.1
def gx_length (u : SX) : Nat → Int32 := u.2.2.2.2.2.2.2.2.2.2.2.2.2.2.2.2.2.2.2.2.2.2.2.1
def gx_open (u : SX) : Nat → Int32 := u.2.2.2.2.2.2.2.2.2.2.2.2.2.2.2.2.2.2.2.2.2.2.2.2.1
def gx_table (u : SX) : Nat → Int32 := u.2.2.2.2.2.2.2.2.2.2.2.2.2.2.2.2.2.2.2.2.2.2.2.2.2.1
def gx_results (u : SX) : Nat → Int32 := u.2.2.2.2.2.2.2.2.2.2.2.2.2.2.2.2.2.2.2.2.2.2.2.2.2.2.1
def gx_known (u : SX) : Nat → Int32 := u.2.2.2.2.2.2.2.2.2.2.2.2.2.2.2.2.2.2.2.2.2.2.2.2.2.2.2.1
def gx_along (u : SX) : Nat → Int32 := u.2.2.2.2.2.2.2.2.2.2.2.2.2.2.2.2.2.2.2.2.2.2.2.2.2.2.2.2.1
def gx_stack (u : SX) : Nat → Int32 := u.2.2.2.2.2.2.2.2.2.2.2.2.2.2.2.2.2.2.2.2.2.2.2.2.2.2.2.2.2.1
def gx_match (u : SX) : Nat → Int32 := u.2.2.2.2.2.2.2.2.2.2.2.2.2.2.2.2.2.2.2.2.2.2.2.2.2.2.2.2.2.2.1
def gx_priority (u : SX) : Nat → Int32 := u.2.2.2.2.2.2.2.2.2.2.2.2.2.2.2.2.2.2.2.2.2.2.2.2.2.2.2.2.2.2.2.1
def gx_out (u : SX) : Nat → Int32 := u.2.2.2.2.2.2.2.2.2.2.2.2.2.2.2.2.2.2.2.2.2.2.2.2.2.2.2.2.2.2.2.2.1
def gx_on (u : SX) : Nat → Int32 := u.2.2.2.2.2.2.2.2.2.2.2.2.2.2.2.2.2.2.2.2.2.2.2.2.2.2.2.2.2.2.2.2.2.1
def gx_matched (u : SX) : Nat → Int32 := u.2.2.2.2.2.2.2.2.2.2.2.2.2.2.2.2.2.2.2.2.2.2.2.2.2.2.2.2.2.2.2.2.2.2.1
def gx_chosen (u : SX) : Nat → Int32 := u.2.2.2.2.2.2.2.2.2.2.2.2.2.2.2.2.2.2.2.2.2.2.2.2.2.2.2.2.2.2.2.2.2.2.2.1
def gx_waiting (u : SX) : Nat → Int32 := u.2.2.2.2.2.2.2.2.2.2.2.2.2.2.2.2.2.2.2.2.2.2.2.2.2.2.2.2.2.2.2.2.2.2.2.2.1
def gx_depths (u : SX) : Nat → Int32 := u.2.2.2.2.2.2.2.2.2.2.2.2.2.2.2.2.2.2.2.2.2.2.2.2.2.2.2.2.2.2.2.2.2.2.2.2.2.1
def gx_outputs (u : SX) : Nat → Int32 := u.2.2.2.2.2.2.2.2.2.2.2.2.2.2.2.2.2.2.2.2.2.2.2.2.2.2.2.2.2.2.2.2.2.2.2.2.2.2
def xu_.{v} {α : Sort v} (F : Int32 → Int32 → Int32 → Int32 → Int32 → (Nat → Int32) → (Nat → Int32) → (Nat → Int32) → (Nat → Int32) → (Nat → Int32) → (Nat → Int32) → (Nat → Int32) → (Nat → Int32) → (Nat → Int32) → (Nat → Int32) → (Nat → Int32) → (Nat → Int32) → (Nat → Int32) → (Nat → Int32) → (Nat → Int32) → (Nat → Int32) → (Nat → Int32) → (Nat → Int32) → (Nat → Int32) → (Nat → Int32) → (Nat → Int32) → (Nat → Int32) → (Nat → Int32) → (Nat → Int32) → (Nat → Int32) → (Nat → Int32) → (Nat → Int32) → (Nat → Int32) → (Nat → Int32) → (Nat → Int32) → (Nat → Int32) → (Nat → Int32) → (Nat → Int32) → (Nat → Int32) → α) (u : SX) : α := F u.1 u.2.1 u.2.2.1 u.2.2.2.1 u.2.2.2.2.1 u.2.2.2.2.2.1 u.2.2.2.2.2.2.1 u.2.2.2.2.2.2.2.1 u.2.2.2.2.2.2.2.2.1 u.2.2.2.2.2.2.2.2.2.1 u.2.2.2.2.2.2.2.2.2.2.1 u.2.2.2.2.2.2.2.2.2.2.2.1 u.2.2.2.2.2.2.2.2.2.2.2.2.1 u.2.2.2.2.2.2.2.2.2.2.2.2.2.1 u.2.2.2.2.2.2.2.2.2.2.2.2.2.2.1 u.2.2.2.2.2.2.2.2.2.2.2.2.2.2.2.1 u.2.2.2.2.2.2.2.2.2.2.2.2.2.2.2.2.1 u.2.2.2.2.2.2.2.2.2.2.2.2.2.2.2.2.2.1 u.2.2.2.2.2.2.2.2.2.2.2.2.2.2.2.2.2.2.1 u.2.2.2.2.2.2.2.2.2.2.2.2.2.2.2.2.2.2.2.1 u.2.2.2.2.2.2.2.2.2.2.2.2.2.2.2.2.2.2.2.2.1 u.2.2.2.2.2.2.2.2.2.2.2.2.2.2.2.2.2.2.2.2.2.1 u.2.2.2.2.2.2.2.2.2.2.2.2.2.2.2.2.2.2.2.2.2.2.1 u.2.2.2.2.2.2.2.2.2.2.2.2.2.2.2.2.2.2.2.2.2.2.2.1 u.2.2.2.2.2.2.2.2.2.2.2.2.2.2.2.2.2.2.2.2.2.2.2.2.1 u.2.2.2.2.2.2.2.2.2.2.2.2.2.2.2.2.2.2.2.2.2.2.2.2.2.1 u.2.2.2.2.2.2.2.2.2.2.2.2.2.2.2.2.2.2.2.2.2.2.2.2.2.2.1 u.2.2.2.2.2.2.2.2.2.2.2.2.2.2.2.2.2.2.2.2.2.2.2.2.2.2.2.1 u.2.2.2.2.2.2.2.2.2.2.2.2.2.2.2.2.2.2.2.2.2.2.2.2.2.2.2.2.1 u.2.2.2.2.2.2.2.2.2.2.2.2.2.2.2.2.2.2.2.2.2.2.2.2.2.2.2.2.2.1 u.2.2.2.2.2.2.2.2.2.2.2.2.2.2.2.2.2.2.2.2.2.2.2.2.2.2.2.2.2.2.1 u.2.2.2.2.2.2.2.2.2.2.2.2.2.2.2.2.2.2.2.2.2.2.2.2.2.2.2.2.2.2.2.1 u.2.2.2.2.2.2.2.2.2.2.2.2.2.2.2.2.2.2.2.2.2.2.2.2.2.2.2.2.2.2.2.2.1 u.2.2.2.2.2.2.2.2.2.2.2.2.2.2.2.2.2.2.2.2.2.2.2.2.2.2.2.2.2.2.2.2.2.1 u.2.2.2.2.2.2.2.2.2.2.2.2.2.2.2.2.2.2.2.2.2.2.2.2.2.2.2.2.2.2.2.2.2.2.1 u.2.2.2.2.2.2.2.2.2.2.2.2.2.2.2.2.2.2.2.2.2.2.2.2.2.2.2.2.2.2.2.2.2.2.2.1 u.2.2.2.2.2.2.2.2.2.2.2.2.2.2.2.2.2.2.2.2.2.2.2.2.2.2.2.2.2.2.2.2.2.2.2.2.1 u.2.2.2.2.2.2.2.2.2.2.2.2.2.2.2.2.2.2.2.2.2.2.2.2.2.2.2.2.2.2.2.2.2.2.2.2.2.1 u.2.2.2.2.2.2.2.2.2.2.2.2.2.2.2.2.2.2.2.2.2.2.2.2.2.2.2.2.2.2.2.2.2.2.2.2.2.2
def xa_.{v} {α : Sort v} (F : (Nat → Int32) → (Nat → Int32) → (Nat → Int32) → (Nat → Int32) → (Nat → Int32) → (Nat → Int32) → (Nat → Int32) → (Nat → Int32) → (Nat → Int32) → (Nat → Int32) → (Nat → Int32) → (Nat → Int32) → (Nat → Int32) → (Nat → Int32) → (Nat → Int32) → (Nat → Int32) → (Nat → Int32) → (Nat → Int32) → (Nat → Int32) → (Nat → Int32) → (Nat → Int32) → (Nat → Int32) → (Nat → Int32) → (Nat → Int32) → (Nat → Int32) → (Nat → Int32) → (Nat → Int32) → (Nat → Int32) → (Nat → Int32) → (Nat → Int32) → (Nat → Int32) → (Nat → Int32) → (Nat → Int32) → (Nat → Int32) → α) (u : SX) : α := F u.2.2.2.2.2.1 u.2.2.2.2.2.2.1 u.2.2.2.2.2.2.2.1 u.2.2.2.2.2.2.2.2.1 u.2.2.2.2.2.2.2.2.2.1 u.2.2.2.2.2.2.2.2.2.2.1 u.2.2.2.2.2.2.2.2.2.2.2.1 u.2.2.2.2.2.2.2.2.2.2.2.2.1 u.2.2.2.2.2.2.2.2.2.2.2.2.2.1 u.2.2.2.2.2.2.2.2.2.2.2.2.2.2.1 u.2.2.2.2.2.2.2.2.2.2.2.2.2.2.2.1 u.2.2.2.2.2.2.2.2.2.2.2.2.2.2.2.2.1 u.2.2.2.2.2.2.2.2.2.2.2.2.2.2.2.2.2.1 u.2.2.2.2.2.2.2.2.2.2.2.2.2.2.2.2.2.2.1 u.2.2.2.2.2.2.2.2.2.2.2.2.2.2.2.2.2.2.2.1 u.2.2.2.2.2.2.2.2.2.2.2.2.2.2.2.2.2.2.2.2.1 u.2.2.2.2.2.2.2.2.2.2.2.2.2.2.2.2.2.2.2.2.2.1 u.2.2.2.2.2.2.2.2.2.2.2.2.2.2.2.2.2.2.2.2.2.2.1 u.2.2.2.2.2.2.2.2.2.2.2.2.2.2.2.2.2.2.2.2.2.2.2.1 u.2.2.2.2.2.2.2.2.2.2.2.2.2.2.2.2.2.2.2.2.2.2.2.2.1 u.2.2.2.2.2.2.2.2.2.2.2.2.2.2.2.2.2.2.2.2.2.2.2.2.2.1 u.2.2.2.2.2.2.2.2.2.2.2.2.2.2.2.2.2.2.2.2.2.2.2.2.2.2.1 u.2.2.2.2.2.2.2.2.2.2.2.2.2.2.2.2.2.2.2.2.2.2.2.2.2.2.2.1 u.2.2.2.2.2.2.2.2.2.2.2.2.2.2.2.2.2.2.2.2.2.2.2.2.2.2.2.2.1 u.2.2.2.2.2.2.2.2.2.2.2.2.2.2.2.2.2.2.2.2.2.2.2.2.2.2.2.2.2.1 u.2.2.2.2.2.2.2.2.2.2.2.2.2.2.2.2.2.2.2.2.2.2.2.2.2.2.2.2.2.2.1 u.2.2.2.2.2.2.2.2.2.2.2.2.2.2.2.2.2.2.2.2.2.2.2.2.2.2.2.2.2.2.2.1 u.2.2.2.2.2.2.2.2.2.2.2.2.2.2.2.2.2.2.2.2.2.2.2.2.2.2.2.2.2.2.2.2.1 u.2.2.2.2.2.2.2.2.2.2.2.2.2.2.2.2.2.2.2.2.2.2.2.2.2.2.2.2.2.2.2.2.2.1 u.2.2.2.2.2.2.2.2.2.2.2.2.2.2.2.2.2.2.2.2.2.2.2.2.2.2.2.2.2.2.2.2.2.2.1 u.2.2.2.2.2.2.2.2.2.2.2.2.2.2.2.2.2.2.2.2.2.2.2.2.2.2.2.2.2.2.2.2.2.2.2.1 u.2.2.2.2.2.2.2.2.2.2.2.2.2.2.2.2.2.2.2.2.2.2.2.2.2.2.2.2.2.2.2.2.2.2.2.2.1 u.2.2.2.2.2.2.2.2.2.2.2.2.2.2.2.2.2.2.2.2.2.2.2.2.2.2.2.2.2.2.2.2.2.2.2.2.2.1 u.2.2.2.2.2.2.2.2.2.2.2.2.2.2.2.2.2.2.2.2.2.2.2.2.2.2.2.2.2.2.2.2.2.2.2.2.2.2
def xf_.{v} {α : Sort v} (F : Int32 → Int32 → Int32 → Int32 → Int32 → α) (u : SX) : α := F u.1 u.2.1 u.2.2.1 u.2.2.2.1 u.2.2.2.2.1
def gy_count (u : SY) : Int32 := u.1
def gy_top (u : SY) : Int32 := u.2.1
def gy_listed (u : SY) : Int32 := u.2.2.1
def gy_outputs (u : SY) : Int32 := u.2.2.2.1
def gy_row (u : SY) : Nat → Int32 := u.2.2.2.2.1
def gy_depth (u : SY) : Nat → Int32 := u.2.2.2.2.2.1
def gy_name (u : SY) : Nat → Int32 := u.2.2.2.2.2.2.1
def gy_value (u : SY) : Nat → Int32 := u.2.2.2.2.2.2.2.1
def gy_moved (u : SY) : Nat → Int32 := u.2.2.2.2.2.2.2.2.1
def gy_kind (u : SY) : Nat → Int32 := u.2.2.2.2.2.2.2.2.2.1
def gy_with (u : SY) : Nat → Int32 := u.2.2.2.2.2.2.2.2.2.2.1
def gy_length (u : SY) : Nat → Int32 := u.2.2.2.2.2.2.2.2.2.2.2.1
def gy_sets (u : SY) : Nat → Int32 := u.2.2.2.2.2.2.2.2.2.2.2.2.1
def gy_fresh (u : SY) : Nat → Int32 := u.2.2.2.2.2.2.2.2.2.2.2.2.2.1
def gy_type (u : SY) : Nat → Int32 := u.2.2.2.2.2.2.2.2.2.2.2.2.2.2.1
def gy_number (u : SY) : Nat → Int32 := u.2.2.2.2.2.2.2.2.2.2.2.2.2.2.2.1
def gy_set (u : SY) : Nat → Int32 := u.2.2.2.2.2.2.2.2.2.2.2.2.2.2.2.2.1
def gy_list (u : SY) : Nat → Int32 := u.2.2.2.2.2.2.2.2.2.2.2.2.2.2.2.2.2.1
def gy_there (u : SY) : Nat → Int32 := u.2.2.2.2.2.2.2.2.2.2.2.2.2.2.2.2.2.2.1
def gy_match (u : SY) : Nat → Int32 := u.2.2.2.2.2.2.2.2.2.2.2.2.2.2.2.2.2.2.2.1
def gy_priority (u : SY) : Nat → Int32 := u.2.2.2.2.2.2.2.2.2.2.2.2.2.2.2.2.2.2.2.2.1
def gy_out (u : SY) : Nat → Int32 := u.2.2.2.2.2.2.2.2.2.2.2.2.2.2.2.2.2.2.2.2.2.1
def gy_on (u : SY) : Nat → Int32 := u.2.2.2.2.2.2.2.2.2.2.2.2.2.2.2.2.2.2.2.2.2.2.1
def gy_todo (u : SY) : Nat → Int32 := u.2.2.2.2.2.2.2.2.2.2.2.2.2.2.2.2.2.2.2.2.2.2.2.1
def gy_within (u : SY) : Nat → Int32 := u.2.2.2.2.2.2.2.2.2.2.2.2.2.2.2.2.2.2.2.2.2.2.2.2.1
def gy_output (u : SY) : Nat → Int32 := u.2.2.2.2.2.2.2.2.2.2.2.2.2.2.2.2.2.2.2.2.2.2.2.2.2
def yu_.{v} {α : Sort v} (F : Int32 → Int32 → Int32 → Int32 → (Nat → Int32) → (Nat → Int32) → (Nat → Int32) → (Nat → Int32) → (Nat → Int32) → (Nat → Int32) → (Nat → Int32) → (Nat → Int32) → (Nat → Int32) → (Nat → Int32) → (Nat → Int32) → (Nat → Int32) → (Nat → Int32) → (Nat → Int32) → (Nat → Int32) → (Nat → Int32) → (Nat → Int32) → (Nat → Int32) → (Nat → Int32) → (Nat → Int32) → (Nat → Int32) → (Nat → Int32) → α) (u : SY) : α := F u.1 u.2.1 u.2.2.1 u.2.2.2.1 u.2.2.2.2.1 u.2.2.2.2.2.1 u.2.2.2.2.2.2.1 u.2.2.2.2.2.2.2.1 u.2.2.2.2.2.2.2.2.1 u.2.2.2.2.2.2.2.2.2.1 u.2.2.2.2.2.2.2.2.2.2.1 u.2.2.2.2.2.2.2.2.2.2.2.1 u.2.2.2.2.2.2.2.2.2.2.2.2.1 u.2.2.2.2.2.2.2.2.2.2.2.2.2.1 u.2.2.2.2.2.2.2.2.2.2.2.2.2.2.1 u.2.2.2.2.2.2.2.2.2.2.2.2.2.2.2.1 u.2.2.2.2.2.2.2.2.2.2.2.2.2.2.2.2.1 u.2.2.2.2.2.2.2.2.2.2.2.2.2.2.2.2.2.1 u.2.2.2.2.2.2.2.2.2.2.2.2.2.2.2.2.2.2.1 u.2.2.2.2.2.2.2.2.2.2.2.2.2.2.2.2.2.2.2.1 u.2.2.2.2.2.2.2.2.2.2.2.2.2.2.2.2.2.2.2.2.1 u.2.2.2.2.2.2.2.2.2.2.2.2.2.2.2.2.2.2.2.2.2.1 u.2.2.2.2.2.2.2.2.2.2.2.2.2.2.2.2.2.2.2.2.2.2.1 u.2.2.2.2.2.2.2.2.2.2.2.2.2.2.2.2.2.2.2.2.2.2.2.1 u.2.2.2.2.2.2.2.2.2.2.2.2.2.2.2.2.2.2.2.2.2.2.2.2.1 u.2.2.2.2.2.2.2.2.2.2.2.2.2.2.2.2.2.2.2.2.2.2.2.2.2
def ya_.{v} {α : Sort v} (F : (Nat → Int32) → (Nat → Int32) → (Nat → Int32) → (Nat → Int32) → (Nat → Int32) → (Nat → Int32) → (Nat → Int32) → (Nat → Int32) → (Nat → Int32) → (Nat → Int32) → (Nat → Int32) → (Nat → Int32) → (Nat → Int32) → (Nat → Int32) → (Nat → Int32) → (Nat → Int32) → (Nat → Int32) → (Nat → Int32) → (Nat → Int32) → (Nat → Int32) → (Nat → Int32) → (Nat → Int32) → α) (u : SY) : α := F u.2.2.2.2.1 u.2.2.2.2.2.1 u.2.2.2.2.2.2.1 u.2.2.2.2.2.2.2.1 u.2.2.2.2.2.2.2.2.1 u.2.2.2.2.2.2.2.2.2.1 u.2.2.2.2.2.2.2.2.2.2.1 u.2.2.2.2.2.2.2.2.2.2.2.1 u.2.2.2.2.2.2.2.2.2.2.2.2.1 u.2.2.2.2.2.2.2.2.2.2.2.2.2.1 u.2.2.2.2.2.2.2.2.2.2.2.2.2.2.1 u.2.2.2.2.2.2.2.2.2.2.2.2.2.2.2.1 u.2.2.2.2.2.2.2.2.2.2.2.2.2.2.2.2.1 u.2.2.2.2.2.2.2.2.2.2.2.2.2.2.2.2.2.1 u.2.2.2.2.2.2.2.2.2.2.2.2.2.2.2.2.2.2.1 u.2.2.2.2.2.2.2.2.2.2.2.2.2.2.2.2.2.2.2.1 u.2.2.2.2.2.2.2.2.2.2.2.2.2.2.2.2.2.2.2.2.1 u.2.2.2.2.2.2.2.2.2.2.2.2.2.2.2.2.2.2.2.2.2.1 u.2.2.2.2.2.2.2.2.2.2.2.2.2.2.2.2.2.2.2.2.2.2.1 u.2.2.2.2.2.2.2.2.2.2.2.2.2.2.2.2.2.2.2.2.2.2.2.1 u.2.2.2.2.2.2.2.2.2.2.2.2.2.2.2.2.2.2.2.2.2.2.2.2.1 u.2.2.2.2.2.2.2.2.2.2.2.2.2.2.2.2.2.2.2.2.2.2.2.2.2
def yf_.{v} {α : Sort v} (F : Int32 → Int32 → Int32 → Int32 → α) (u : SY) : α := F u.1 u.2.1 u.2.2.1 u.2.2.2.1
end
section
/-! ===== bits: one-hot, lists of bits, lowest, highest, intervals ===== -/
def bs_oh (k : Nat) : Int32 := (1 : Int32) <<< (nI k &&& 31)
theorem bs_oh_n {k : Nat} (hk : k < 32) : bs_oh k = nI (2 ^ k) := by
  have h := pk_shlN (n := 1) (nI k &&& 31) k (s_l k hk) (by rw [Nat.one_mul]; exact Nat.pow_lt_pow_right (by decide) hk)
  rw [Nat.one_mul] at h
  exact h
theorem bs_bn (m : Nat) {i : Nat} (hi : i < 32) : bt (nI m) i = m.testBit i := by
  show (BitVec.ofNat 32 m).getLsbD i = _
  rw [BitVec.getLsbD_ofNat]; simp [hi]
theorem bs_oh_bt {k : Nat} (i : Nat) (hk : k < 32) : bt (bs_oh k) i = decide (i = k) := by
  rcases Nat.lt_or_ge i 32 with hi | hi
  · rw [bs_oh_n hk, bs_bn _ hi, Nat.testBit_two_pow]
    by_cases h : k = i
    · simp [h]
    · have h' : ¬ i = k := fun e => h e.symm
      simp [h, h']
  · rw [b_big hi, decide_eq_false (by omega)]
theorem bs_b1 (i : Nat) : bt 1 i = decide (i = 0) := by
  rcases Nat.lt_or_ge i 32 with hi | hi
  · exact (by decide +kernel : ∀ i, i < 32 → bt 1 i = decide (i = 0)) i hi
  · rw [b_big hi, decide_eq_false (by omega)]
theorem bs_tst (x : Int32) {k : Nat} (hk : k < 32) : (x >>> (nI k &&& 31)) &&& 1 = if bt x k = true then 1 else 0 := by
  apply b_ext
  intro i hi
  rw [b_and, bs_b1]
  by_cases h0 : i = 0
  · subst h0
    rw [b_sshr k hk x hi, if_pos (by omega), Nat.add_zero]
    cases h : bt x k <;> simp [bs_b1, b_0]
  · cases h : bt x k <;> simp [h0, bs_b1, b_0]
theorem bs_t0 {x : Int32} {k : Nat} (hk : k < 32) : (x >>> (nI k &&& 31)) &&& 1 = 0 ↔ bt x k = false := by
  rw [bs_tst x hk]; cases h : bt x k <;> simp
theorem bs_t1 {x : Int32} {k : Nat} (hk : k < 32) : (x >>> (nI k &&& 31)) &&& 1 = 1 ↔ bt x k = true := by
  rw [bs_tst x hk]; cases h : bt x k <;> simp
theorem bs_clr {x : Int32} {l : Nat} (hl : l < 32) (h1 : bt x l = true) (h0 : ∀ j, j < l → bt x j = false) (i : Nat) : bt (x &&& (x - 1)) i = (bt x i && decide (i ≠ l)) := by
  rcases Nat.lt_or_ge i 32 with hi | hi
  · obtain ⟨m, hm, rfl⟩ := wb_of32 x
    have b1 : m.testBit l = true := by rw [← bs_bn m hl]; exact h1
    have b0 : ∀ j, j < l → m.testBit j = false := fun j hj => by rw [← bs_bn m (by omega)]; exact h0 j hj
    have em : m = 2 ^ (l + 1) * (m / 2 ^ (l + 1)) + 2 ^ l := by
      apply Nat.eq_of_testBit_eq
      intro j
      rw [Nat.testBit_two_pow_mul_add _ (Nat.pow_lt_pow_right (by decide) (Nat.lt_succ_self l)), Nat.testBit_two_pow]
      by_cases hj : j < l + 1
      · rw [if_pos hj]
        by_cases e : l = j
        · subst e; simp [b1]
        · rw [b0 j (by omega)]; simp [e]
      · rw [if_neg hj, Nat.testBit_div_two_pow]
        congr 1; omega
    have hp : 0 < 2 ^ l := Nat.two_pow_pos l
    generalize ht : m / 2 ^ (l + 1) = t at em
    have em1 : m - 1 = 2 ^ (l + 1) * t + (2 ^ l - 1) := by omega
    have e1 : nI m - 1 = nI (m - 1) := by
      have : (1 : Int32) = nI 1 := rfl
      rw [this, pk_sub (by omega)]
    rw [b_and, e1, bs_bn _ hi, bs_bn _ hi, em1]
    have l1 : 2 ^ l < 2 ^ (l + 1) := Nat.pow_lt_pow_right (by decide) (Nat.lt_succ_self l)
    rw [em, Nat.testBit_two_pow_mul_add _ l1, Nat.testBit_two_pow_mul_add _ (by omega : 2 ^ l - 1 < 2 ^ (l + 1)), Nat.testBit_two_pow, Nat.testBit_two_pow_sub_one]
    by_cases hj : i < l + 1
    · rw [if_pos hj, if_pos hj]
      by_cases e : l = i
      · subst e; simp
      · have e' : ¬ i = l := fun z => e z.symm
        simp [e]
    · rw [if_neg hj, if_neg hj]
      have e' : ¬ i = l := by omega
      simp [e']
  · rw [b_big hi, b_big hi]; rfl
def bs_bo : List Nat → Int32
  | [] => 0
  | k :: L => bs_oh k ||| bs_bo L
theorem bs_bo_bt : ∀ {L : List Nat} (_ : ∀ k, k ∈ L → k < 32) (i : Nat), bt (bs_bo L) i = decide (i ∈ L)
  | [], _, i => by rw [bs_bo, b_0]; simp
  | k :: L, h, i => by
    rw [bs_bo, b_or, bs_oh_bt i (h k (List.mem_cons_self ..)), bs_bo_bt (fun j hj => h j (List.mem_cons_of_mem _ hj)) i]
    by_cases e : i = k <;> simp [e]
def bs_els (x : Int32) : List Nat := (List.range 24).filter (fun i => bt x i)
def bs_ok (c : Nat) (x : Int32) : Prop := ∀ i, bt x i = true → i < c
theorem bs_els_mem {x : Int32} {k : Nat} : k ∈ bs_els x ↔ k < 24 ∧ bt x k = true := by
  unfold bs_els; rw [List.mem_filter, List.mem_range]
theorem bs_els_asc (x : Int32) : (bs_els x).Pairwise (· < ·) := List.Pairwise.filter _ List.pairwise_lt_range
theorem bs_ok_mono {c d : Nat} {x : Int32} (h : bs_ok c x) (hd : c ≤ d) : bs_ok d x := fun i hi => Nat.lt_of_lt_of_le (h i hi) hd
theorem bs_ok_els {c : Nat} {x : Int32} (h : bs_ok c x) {k : Nat} (hk : k ∈ bs_els x) : k < c := h k (bs_els_mem.mp hk).2
theorem bs_bo_els {c : Nat} {x : Int32} (h : bs_ok c x) (hc : c ≤ 24) : bs_bo (bs_els x) = x := by
  apply b_ext
  intro i hi
  rw [bs_bo_bt (fun k hk => by have := (bs_els_mem.mp hk).1; omega)]
  by_cases e : bt x i = true
  · rw [e]; exact decide_eq_true (bs_els_mem.mpr ⟨by have := h i e; omega, e⟩)
  · rw [ts_nt e]; exact decide_eq_false (fun z => e (bs_els_mem.mp z).2)
theorem bs_bo_ok {c : Nat} {L : List Nat} (h : ∀ k, k ∈ L → k < c) (hc : c ≤ 32) : bs_ok c (bs_bo L) := by
  intro i hi
  rw [bs_bo_bt (fun k hk => by have := h k hk; omega)] at hi
  exact h i (of_decide_eq_true hi)
theorem bs_0_ok (c : Nat) : bs_ok c 0 := fun i hi => by rw [b_0] at hi; exact absurd hi (by decide)
theorem bs_or_ok {c : Nat} {x y : Int32} (hx : bs_ok c x) (hy : bs_ok c y) : bs_ok c (x ||| y) := by
  intro i hi
  rw [b_or] at hi
  rcases (Bool.or_eq_true_iff ..).mp hi with h | h
  · exact hx i h
  · exact hy i h
theorem bs_and_ok {c : Nat} {x : Int32} (hx : bs_ok c x) (y : Int32) : bs_ok c (x &&& y) := by
  intro i hi
  rw [b_and] at hi
  exact hx i ((Bool.and_eq_true_iff ..).mp hi).1
theorem bs_oh_ok {c k : Nat} (h : k < c) (hc : c ≤ 32) : bs_ok c (bs_oh k) := by
  intro i hi
  rw [bs_oh_bt i (by omega)] at hi
  have := of_decide_eq_true hi
  omega
theorem bs_asc_ext : ∀ {L M : List Nat}, L.Pairwise (· < ·) → M.Pairwise (· < ·) → (∀ k, k ∈ L ↔ k ∈ M) → L = M
  | [], [], _, _, _ => rfl
  | [], m :: M, _, _, h => absurd ((h m).mpr (List.mem_cons_self ..)) (by simp)
  | l :: L, [], _, _, h => absurd ((h l).mp (List.mem_cons_self ..)) (by simp)
  | l :: L, m :: M, hl, hm, h => by
    have hl' := List.pairwise_cons.mp hl
    have hm' := List.pairwise_cons.mp hm
    have e : l = m := by
      have h1 := (h l).mp (List.mem_cons_self ..)
      have h2 := (h m).mpr (List.mem_cons_self ..)
      rcases List.mem_cons.mp h1 with z | z
      · exact z
      · rcases List.mem_cons.mp h2 with w | w
        · exact w.symm
        · have := hl'.1 m w
          have := hm'.1 l z
          omega
    subst e
    congr 1
    apply bs_asc_ext hl'.2 hm'.2
    intro k
    constructor
    · intro z
      rcases List.mem_cons.mp ((h k).mp (List.mem_cons_of_mem _ z)) with w | w
      · have := hl'.1 k z; omega
      · exact w
    · intro z
      rcases List.mem_cons.mp ((h k).mpr (List.mem_cons_of_mem _ z)) with w | w
      · have := hm'.1 k z; omega
      · exact w
theorem bs_els_bo {L : List Nat} (ha : L.Pairwise (· < ·)) (hb : ∀ k, k ∈ L → k < 24) : bs_els (bs_bo L) = L := by
  apply bs_asc_ext (bs_els_asc _) ha
  intro k
  rw [bs_els_mem, bs_bo_bt (fun j hj => by have := hb j hj; omega)]
  exact ⟨fun z => of_decide_eq_true z.2, fun z => ⟨hb k z, decide_eq_true z⟩⟩
theorem bs_ext_ok {x y : Int32} {c : Nat} (hc : c ≤ 32) (hx : bs_ok c x) (hy : bs_ok c y) (h : ∀ i, i < c → bt x i = bt y i) : x = y := by
  apply b_ext
  intro i _
  rcases Nat.lt_or_ge i c with z | z
  · exact h i z
  · have a : bt x i = false := ts_nt (fun w => by have := hx i w; omega)
    have b : bt y i = false := ts_nt (fun w => by have := hy i w; omega)
    rw [a, b]
theorem bs_ne0 {x : Int32} {k : Nat} (h : bt x k = true) : x ≠ 0 := fun e => by rw [e, b_0] at h; exact absurd h (by decide)
theorem bs_lowest_loop {post : Int32 → Prop} {x : Int32} {l : Nat} (hl : l < 32) (h1 : bt x l = true) (h0 : ∀ j, j < l → bt x j = false) (hp : post (nI l)) : ∀ d j, j + d = l → wX_lowest_2 post x (d + 1) (nI j) := by
  intro d
  induction d with
  | zero =>
    intro j hj
    have e : j = l := by omega
    subst e
    exact br_f (fun z => by rw [bs_t0 hl, h1] at z; exact absurd z (by decide)) hp
  | succ d ih =>
    intro j hj
    exact br_t ((bs_t0 (by omega)).mpr (h0 j (by omega))) (nm_r (nI_1 j) (ih (j + 1) (by omega)))
theorem bs_lowest {post : Int32 → Prop} {x : Int32} {l : Nat} (hl : l < 32) (h1 : bt x l = true) (h0 : ∀ j, j < l → bt x j = false) (hp : post (nI l)) : wpX_lowest post x := by
  have h := bs_lowest_loop hl h1 h0 hp l 0 (by omega)
  rw [nI_0] at h
  exact ⟨_, h⟩
theorem bs_highest_loop {post : Int32 → Prop} {x : Int32} {l : Nat} (h1 : bt x l = true) (h0 : ∀ j, l < j → j < 24 → bt x j = false) (hp : post (nI l)) : ∀ d j, j = l + d → j < 24 → wX_highest_3 post x (d + 1) (nI j) := by
  intro d
  induction d with
  | zero =>
    intro j hj hb
    have e : j = l := by omega
    subst e
    exact br_f (fun z => by rw [bs_t0 (by omega), h1] at z; exact absurd z (by decide)) hp
  | succ d ih =>
    intro j hj hb
    obtain ⟨i, rfl⟩ : ∃ i, j = i + 1 := ⟨j - 1, by omega⟩
    exact br_t ((bs_t0 (by omega)).mpr (h0 (i + 1) (by omega) hb)) (nm_r (pk_m1 i) (ih i (by omega) (by omega)))
theorem bs_highest {post : Int32 → Prop} {x : Int32} {l : Nat} (hl : l < 24) (h1 : bt x l = true) (h0 : ∀ j, l < j → j < 24 → bt x j = false) (hp : post (nI l)) : wpX_highest post x :=
  ⟨_, bs_highest_loop h1 h0 hp (23 - l) 23 (by omega) (by omega)⟩
/-- the first of an ascending list of bits -/
theorem bs_asc {k : Nat} {L : List Nat} (ha : (k :: L).Pairwise (· < ·)) (hb : ∀ j, j ∈ k :: L → j < 24) :
    bs_bo (k :: L) ≠ 0 ∧ bs_bo (k :: L) &&& (bs_bo (k :: L) - 1) = bs_bo L ∧ bs_bo (k :: L) &&& (bs_oh k ^^^ (-1)) = bs_bo L ∧ ∀ post : Int32 → Prop, post (nI k) → wpX_lowest post (bs_bo (k :: L)) := by
  have hb' : ∀ j, j ∈ k :: L → j < 32 := fun j hj => by have := hb j hj; omega
  have hk : k < 24 := hb k (List.mem_cons_self ..)
  have ha' := List.pairwise_cons.mp ha
  have h1 : bt (bs_bo (k :: L)) k = true := by rw [bs_bo_bt hb']; simp
  have h0 : ∀ j, j < k → bt (bs_bo (k :: L)) j = false := by
    intro j hj
    rw [bs_bo_bt hb']
    apply decide_eq_false
    intro z
    rcases List.mem_cons.mp z with w | w
    · omega
    · have := ha'.1 j w; omega
  have hL : ∀ j, j ∈ L → j < 32 := fun j hj => hb' j (List.mem_cons_of_mem _ hj)
  have hkL : ∀ i, (decide (i ∈ k :: L) && decide (i ≠ k)) = decide (i ∈ L) := by
    intro i
    by_cases e : i = k
    · subst e
      have : ¬ i ∈ L := fun z => by have := ha'.1 i z; omega
      simp [this]
    · simp [e]
  refine ⟨bs_ne0 h1, ?_, ?_, fun post hp => bs_lowest (by omega) h1 h0 hp⟩
  · apply b_ext
    intro i _
    rw [bs_clr (by omega) h1 h0, bs_bo_bt hb', bs_bo_bt hL, hkL]
  · apply b_ext
    intro i hi
    rw [b_and, b_xor, b_m1 i hi, bs_oh_bt i (by omega), bs_bo_bt hb', bs_bo_bt hL, ← hkL]
    by_cases e : i = k <;> simp [e]
/-- the first of a descending list of bits -/
theorem bs_dsc {k : Nat} {L : List Nat} (ha : (k :: L).Pairwise (· > ·)) (hb : ∀ j, j ∈ k :: L → j < 24) :
    bs_bo (k :: L) ≠ 0 ∧ bs_bo (k :: L) &&& (bs_oh k ^^^ (-1)) = bs_bo L ∧ ∀ post : Int32 → Prop, post (nI k) → wpX_highest post (bs_bo (k :: L)) := by
  have hb' : ∀ j, j ∈ k :: L → j < 32 := fun j hj => by have := hb j hj; omega
  have hk : k < 24 := hb k (List.mem_cons_self ..)
  have ha' := List.pairwise_cons.mp ha
  have h1 : bt (bs_bo (k :: L)) k = true := by rw [bs_bo_bt hb']; simp
  have h0 : ∀ j, k < j → j < 24 → bt (bs_bo (k :: L)) j = false := by
    intro j hj _
    rw [bs_bo_bt hb']
    apply decide_eq_false
    intro z
    rcases List.mem_cons.mp z with w | w
    · omega
    · have := ha'.1 j w; omega
  have hL : ∀ j, j ∈ L → j < 32 := fun j hj => hb' j (List.mem_cons_of_mem _ hj)
  have hkL : ∀ i, (decide (i ∈ k :: L) && decide (i ≠ k)) = decide (i ∈ L) := by
    intro i
    by_cases e : i = k
    · subst e
      have : ¬ i ∈ L := fun z => by have := ha'.1 i z; omega
      simp [this]
    · simp [e]
  refine ⟨bs_ne0 h1, ?_, fun post hp => bs_highest hk h1 h0 hp⟩
  apply b_ext
  intro i hi
  rw [b_and, b_xor, b_m1 i hi, bs_oh_bt i (by omega), bs_bo_bt hb', bs_bo_bt hL, ← hkL]
  by_cases e : i = k <;> simp [e]
theorem bs_iv {l h : Nat} (hlh : l ≤ h) (hh : h < 24) (i : Nat) : bt (bs_oh (h + 1) - bs_oh l) i = decide (l ≤ i ∧ i ≤ h) := by
  rcases Nat.lt_or_ge i 32 with hi | hi
  · have hp : 2 ^ l ≤ 2 ^ (h + 1) := Nat.pow_le_pow_right (by decide) (by omega)
    rw [bs_oh_n (by omega), bs_oh_n (by omega), pk_sub hp, bs_bn _ hi]
    have e : 2 ^ (h + 1) - 2 ^ l = 2 ^ l * (2 ^ (h + 1 - l) - 1) := by
      rw [Nat.mul_sub, ← Nat.pow_add, Nat.mul_one]
      congr 2; omega
    rw [e, Nat.testBit_two_pow_mul, Nat.testBit_two_pow_sub_one]
    by_cases h1 : l ≤ i
    · by_cases h2 : i ≤ h
      · have h3 : i - l < h + 1 - l := by omega
        simp [h1, h2, h3]
      · have h3 : ¬ i - l < h + 1 - l := by omega
        simp [h2, h3]
    · simp [h1]
  · rw [b_big hi, decide_eq_false (by omega)]
theorem bs_nar_byte {n : Nat} (h : n < 128) : vp_nar .byte (nI n) = nI n := by
  rw [vp_nar_byte]
  exact (by decide +kernel : ∀ n, n < 128 → (nI n).toInt8.toInt32 = nI n) n h
theorem bs_i8 {n : Nat} (h : n < 128) : (nI n).toInt8.toInt32 = nI n :=
  (by decide +kernel : ∀ n, n < 128 → (nI n).toInt8.toInt32 = nI n) n h
theorem bs_nb {n : Nat} (h : n < 128) : vp_nar .byte ((nI n).toInt8.toInt32) = nI n := by rw [bs_i8 h, bs_nar_byte h]
theorem bs_nb1 : vp_nar .byte (-1) = -1 := by rw [vp_nar_byte]; decide
theorem bs_nb2 : vp_nar .byte ((-1 : Int32).toInt8.toInt32) = -1 := by rw [vp_nar_byte]; decide
theorem bs_bool0 : vp_nar .boolean 0 = 0 := by rfl
theorem bs_bool1 : vp_nar .boolean 1 = 1 := by rfl
end
section
/-! ===== a tree by places in document order: c places, D the depth of each ===== -/
def tr_sc (c : Nat) (D : Nat → Nat) (d : Nat) : Nat → Nat → Nat
  | 0, k => k
  | f + 1, k => if k < c ∧ d < D k then tr_sc c D d f (k + 1) else k
def tr_be (c : Nat) (D : Nat → Nat) (i : Nat) : Nat := tr_sc c D (D i) c (i + 1)
def tr_Be (c : Nat) (D : Nat → Nat) (i e : Nat) : Prop := i < e ∧ e ≤ c ∧ (∀ k, i < k → k < e → D i < D k) ∧ (e < c → D e ≤ D i)
theorem tr_sc_spec {c : Nat} {D : Nat → Nat} {d : Nat} : ∀ f k, c ≤ k + f → k ≤ c → k ≤ tr_sc c D d f k ∧ tr_sc c D d f k ≤ c ∧ (∀ j, k ≤ j → j < tr_sc c D d f k → d < D j) ∧ (tr_sc c D d f k < c → D (tr_sc c D d f k) ≤ d) := by
  intro f
  induction f with
  | zero =>
    intro k h1 h2
    simp only [tr_sc]
    exact ⟨Nat.le_refl _, h2, fun j a b => by omega, fun z => by omega⟩
  | succ f ih =>
    intro k h1 h2
    simp only [tr_sc]
    by_cases h : k < c ∧ d < D k
    · rw [if_pos h]
      obtain ⟨a1, a2, a3, a4⟩ := ih (k + 1) (by omega) (by omega)
      refine ⟨by omega, a2, fun j b1 b2 => ?_, a4⟩
      by_cases e : j = k
      · rw [e]; exact h.2
      · exact a3 j (by omega) b2
    · rw [if_neg h]
      refine ⟨Nat.le_refl _, h2, fun j a b => by omega, fun z => ?_⟩
      have : ¬ d < D k := fun w => h ⟨z, w⟩
      omega
theorem tr_be_spec {c : Nat} {D : Nat → Nat} {i : Nat} (hi : i < c) : tr_Be c D i (tr_be c D i) := by
  obtain ⟨a1, a2, a3, a4⟩ := tr_sc_spec (c := c) (D := D) (d := D i) c (i + 1) (by omega) (by omega)
  exact ⟨a1, a2, fun k b1 b2 => a3 k b1 b2, a4⟩
theorem tr_Be_uniq {c : Nat} {D : Nat → Nat} {i e f : Nat} (h : tr_Be c D i e) (k : tr_Be c D i f) : e = f := by
  obtain ⟨h1, h2, h3, h4⟩ := h
  obtain ⟨k1, k2, k3, k4⟩ := k
  rcases Nat.lt_trichotomy e f with z | z | z
  · have := h4 (by omega); have := k3 e h1 z; omega
  · exact z
  · have := k4 (by omega); have := h3 f k1 z; omega
theorem tr_be_eq {c : Nat} {D : Nat → Nat} {i e : Nat} (h : tr_Be c D i e) : tr_be c D i = e :=
  tr_Be_uniq (tr_be_spec (by have := h.1; have := h.2.1; omega)) h
def tr_W (c : Nat) (D : Nat → Nat) : Prop := (0 < c → D 0 = 0) ∧ ∀ i, i + 1 < c → 1 ≤ D (i + 1) ∧ D (i + 1) ≤ D i + 1
theorem tr_W_le {c : Nat} {D : Nat → Nat} (h : tr_W c D) : ∀ i, i < c → D i ≤ i := by
  intro i
  induction i with
  | zero => intro z; rw [h.1 z]; exact Nat.le_refl _
  | succ i ih => intro z; have := ih (by omega); have := (h.2 i z).2; omega
theorem tr_W_pos {c : Nat} {D : Nat → Nat} (h : tr_W c D) {i : Nat} (h0 : 0 < i) (hi : i < c) : 1 ≤ D i := by
  obtain ⟨j, rfl⟩ : ∃ j, i = j + 1 := ⟨i - 1, by omega⟩
  exact (h.2 j hi).1
def tr_ps (D : Nat → Nat) (d : Nat) : Nat → Option Nat
  | 0 => none
  | j + 1 => if D j < d then some j else tr_ps D d j
def tr_pr (D : Nat → Nat) (i : Nat) : Option Nat := tr_ps D (D i) i
def tr_Pa (D : Nat → Nat) (i p : Nat) : Prop := p < i ∧ D p < D i ∧ ∀ k, p < k → k < i → D i ≤ D k
theorem tr_ps_some {D : Nat → Nat} {d p : Nat} : ∀ n, tr_ps D d n = some p → p < n ∧ D p < d ∧ ∀ k, p < k → k < n → d ≤ D k := by
  intro n
  induction n with
  | zero => intro h; exact absurd h (by simp [tr_ps])
  | succ n ih =>
    intro h
    simp only [tr_ps] at h
    by_cases z : D n < d
    · rw [if_pos z] at h
      have e : n = p := Option.some.inj h
      subst e
      exact ⟨by omega, z, fun k a b => by omega⟩
    · rw [if_neg z] at h
      obtain ⟨a, b, e⟩ := ih h
      refine ⟨by omega, b, fun k x y => ?_⟩
      by_cases w : k = n
      · rw [w]; omega
      · exact e k x (by omega)
theorem tr_ps_none {D : Nat → Nat} {d : Nat} : ∀ n, tr_ps D d n = none → ∀ k, k < n → d ≤ D k := by
  intro n
  induction n with
  | zero => intro _ k hk; omega
  | succ n ih =>
    intro h k hk
    simp only [tr_ps] at h
    by_cases z : D n < d
    · rw [if_pos z] at h; exact absurd h (by simp)
    · rw [if_neg z] at h
      by_cases w : k = n
      · rw [w]; omega
      · exact ih h k (by omega)
theorem tr_ps_congr {D D' : Nat → Nat} {d : Nat} : ∀ n, (∀ j, j < n → D' j = D j) → tr_ps D' d n = tr_ps D d n := by
  intro n
  induction n with
  | zero => intro _; rfl
  | succ n ih =>
    intro h
    simp only [tr_ps]
    rw [h n (by omega), ih (fun j hj => h j (by omega))]
theorem tr_pr_some {D : Nat → Nat} {i p : Nat} (h : tr_pr D i = some p) : tr_Pa D i p := tr_ps_some i h
theorem tr_Pa_uniq {D : Nat → Nat} {i p q : Nat} (h : tr_Pa D i p) (k : tr_Pa D i q) : p = q := by
  obtain ⟨h1, h2, h3⟩ := h
  obtain ⟨k1, k2, k3⟩ := k
  rcases Nat.lt_trichotomy p q with z | z | z
  · have := h3 q z k1; omega
  · exact z
  · have := k3 p z h1; omega
theorem tr_pr_of {D : Nat → Nat} {i p : Nat} (h : tr_Pa D i p) : tr_pr D i = some p := by
  cases e : tr_pr D i with
  | none => have := tr_ps_none i e p h.1; have := h.2.1; omega
  | some q => rw [tr_Pa_uniq (tr_pr_some e) h]
theorem tr_pr_0 (D : Nat → Nat) : tr_pr D 0 = none := rfl
theorem tr_pr_ex {c : Nat} {D : Nat → Nat} (h : tr_W c D) {i : Nat} (h0 : 0 < i) (hi : i < c) : ∃ p, tr_pr D i = some p ∧ tr_Pa D i p := by
  cases e : tr_pr D i with
  | none =>
    have a := tr_ps_none i e 0 h0
    have b := tr_W_pos h h0 hi
    have d := h.1 (by omega)
    omega
  | some q => exact ⟨q, rfl, tr_pr_some e⟩
/-- a parent: the place is below it, one deeper -/
theorem tr_Pa_be {c : Nat} {D : Nat → Nat} (h : tr_W c D) {i p : Nat} (hi : i < c) : tr_Pa D i p ↔ p < i ∧ i < tr_be c D p ∧ D i = D p + 1 := by
  constructor
  · rintro ⟨h1, h2, h3⟩
    obtain ⟨b1, b2, b3, b4⟩ := tr_be_spec (c := c) (D := D) (i := p) (by omega)
    refine ⟨h1, ?_, ?_⟩
    · rcases Nat.lt_or_ge i (tr_be c D p) with z | z
      · exact z
      · exfalso
        rcases Nat.lt_or_ge (tr_be c D p) i with w | w
        · have := h3 _ b1 w; have := b4 (by omega); omega
        · have e : tr_be c D p = i := by omega
          rw [e] at b4; have := b4 hi; omega
    · have s := (h.2 p (by omega)).2
      by_cases e : p + 1 = i
      · rw [e] at s; omega
      · have := h3 (p + 1) (by omega) (by omega); omega
  · rintro ⟨h1, h2, h3⟩
    obtain ⟨b1, b2, b3, b4⟩ := tr_be_spec (c := c) (D := D) (i := p) (by omega)
    exact ⟨h1, by omega, fun k x y => by have := b3 k x (by omega); omega⟩
def tr_fc (c : Nat) (D : Nat → Nat) (i : Nat) : Option Nat := if i + 1 < c ∧ D i < D (i + 1) then some (i + 1) else none
def tr_nx (c : Nat) (D : Nat → Nat) (i : Nat) : Option Nat := if tr_be c D i < c ∧ D (tr_be c D i) = D i then some (tr_be c D i) else none
/-! a block of m places put in at place q -/
def tr_sp (q m : Nat) (f b : Nat → Nat) : Nat → Nat := fun i => if i < q then f i else if i < q + m then b (i - q) else f (i - m)
def tr_sh (q m i : Nat) : Nat := if i < q then i else i + m
theorem tr_sp_lo {q m i : Nat} {f b : Nat → Nat} (h : i < q) : tr_sp q m f b i = f i := if_pos h
theorem tr_sp_mid {q m j : Nat} {f b : Nat → Nat} (h : j < m) : tr_sp q m f b (q + j) = b j := by
  unfold tr_sp; rw [if_neg (by omega), if_pos (by omega)]; congr 1; omega
theorem tr_sp_q {q m : Nat} {f b : Nat → Nat} (h : 0 < m) : tr_sp q m f b q = b 0 := tr_sp_mid (j := 0) h
theorem tr_sp_hi {q m i : Nat} {f b : Nat → Nat} (h : q ≤ i) : tr_sp q m f b (i + m) = f i := by
  unfold tr_sp; rw [if_neg (by omega), if_neg (by omega)]; congr 1; omega
theorem tr_sp_hi' {q m k : Nat} {f b : Nat → Nat} (h : q + m ≤ k) : tr_sp q m f b k = f (k - m) := by
  unfold tr_sp; rw [if_neg (by omega), if_neg (by omega)]
theorem tr_sp_md {q m k : Nat} {f b : Nat → Nat} (h : q ≤ k) (h2 : k < q + m) : tr_sp q m f b k = b (k - q) := by
  unfold tr_sp; rw [if_neg (by omega), if_pos (by omega)]
theorem tr_sp_sh {q m i : Nat} {f b : Nat → Nat} : tr_sp q m f b (tr_sh q m i) = f i := by
  unfold tr_sh
  by_cases h : i < q
  · rw [if_pos h, tr_sp_lo h]
  · rw [if_neg h, tr_sp_hi (by omega)]
theorem tr_sh_lo {q m i : Nat} (h : i < q) : tr_sh q m i = i := if_pos h
theorem tr_sh_hi {q m i : Nat} (h : q ≤ i) : tr_sh q m i = i + m := if_neg (by omega)
def tr_SP (c q m p : Nat) (D E : Nat → Nat) : Prop := tr_W c D ∧ p < q ∧ q ≤ tr_be c D p ∧ p < c ∧ (q < tr_be c D p → D q = D p + 1) ∧ 0 < m ∧ E 0 = D p + 1 ∧ (∀ j, 0 < j → j < m → E 0 < E j) ∧ (∀ j, j + 1 < m → E (j + 1) ≤ E j + 1)
section
variable {c q m p : Nat} {D E : Nat → Nat}
theorem tr_SP_q (S : tr_SP c q m p D E) : q ≤ c := by
  have := (tr_be_spec (D := D) S.2.2.2.1).2.1
  have := S.2.2.1
  omega
theorem tr_SP_Dq (S : tr_SP c q m p D E) (hq : q < c) : D q ≤ D p + 1 := by
  obtain ⟨-, h2, h3, h4, h5, -⟩ := S
  have b := (tr_be_spec (D := D) h4).2.2.2
  rcases Nat.lt_or_ge q (tr_be c D p) with z | z
  · have := h5 z; omega
  · have e : tr_be c D p = q := by omega
    rw [e] at b; have := b hq; omega
theorem tr_SP_E (S : tr_SP c q m p D E) {j : Nat} (hj : j < m) : D p + 1 ≤ E j := by
  obtain ⟨-, -, -, -, -, -, h7, h8, -⟩ := S
  by_cases e : j = 0
  · rw [e]; omega
  · have := h8 j (by omega) hj; omega
theorem tr_SP_bt (S : tr_SP c q m p D E) {k : Nat} (h1 : p < k) (h2 : k < q) : D p < D k :=
  (tr_be_spec (D := D) S.2.2.2.1).2.2.1 k h1 (by have := S.2.2.1; omega)
theorem tr_SP_W (S : tr_SP c q m p D E) : tr_W (c + m) (tr_sp q m D E) := by
  have hq := tr_SP_q S
  have hE := fun j (hj : j < m) => tr_SP_E S hj
  have hDq := tr_SP_Dq S
  have hbt := fun k => tr_SP_bt S (k := k)
  obtain ⟨h1, h2, h3, h4, h5, h6, h7, h8, h9⟩ := S
  refine ⟨fun _ => by rw [tr_sp_lo (by omega)]; exact h1.1 (by omega), fun i hi => ?_⟩
  rcases Nat.lt_trichotomy (i + 1) q with z | z | z
  · rw [tr_sp_lo z, tr_sp_lo (by omega)]; exact h1.2 i (by omega)
  · rw [z, tr_sp_q h6, tr_sp_lo (by omega)]
    by_cases e : i = p
    · rw [e]; omega
    · have := hbt i (by omega) (by omega); omega
  · rcases Nat.lt_or_ge (i + 1) (q + m) with w | w
    · rw [tr_sp_md (by omega) w, tr_sp_md (by omega) (by omega)]
      have a1 := h9 (i - q) (by omega)
      have a2 := hE (i - q + 1) (by omega)
      rw [show i + 1 - q = i - q + 1 by omega]
      omega
    · rw [tr_sp_hi' w]
      rcases Nat.lt_or_ge i (q + m) with y | y
      · have e : i + 1 - m = q := by omega
        rw [e, tr_sp_md (by omega) y]
        have := hDq (by omega)
        have := hE (i - q) (by omega)
        have := tr_W_pos h1 (i := q) (by omega) (by omega)
        omega
      · rw [tr_sp_hi' y]
        have := h1.2 (i - m) (by omega)
        have e : i + 1 - m = i - m + 1 := by omega
        rw [e]; exact this
theorem tr_SP_be1 (S : tr_SP c q m p D E) {i : Nat} (hi : i < q) (hb : tr_be c D i < q) : tr_be (c + m) (tr_sp q m D E) i = tr_be c D i := by
  have hq := tr_SP_q S
  obtain ⟨b1, b2, b3, b4⟩ := tr_be_spec (c := c) (D := D) (i := i) (by omega)
  refine tr_be_eq ⟨b1, by omega, fun k x y => ?_, fun z => ?_⟩
  · rw [tr_sp_lo hi, tr_sp_lo (by omega)]; exact b3 k x y
  · rw [tr_sp_lo hi, tr_sp_lo hb]; exact b4 (by omega)
theorem tr_SP_be2 (S : tr_SP c q m p D E) {i : Nat} (hi : i < q) (hb : q ≤ tr_be c D i) (hd : D i ≤ D p) : tr_be (c + m) (tr_sp q m D E) i = tr_be c D i + m := by
  have hq := tr_SP_q S
  have hE := fun j (hj : j < m) => tr_SP_E S hj
  obtain ⟨b1, b2, b3, b4⟩ := tr_be_spec (c := c) (D := D) (i := i) (by omega)
  refine tr_be_eq ⟨by omega, by omega, fun k x y => ?_, fun z => ?_⟩
  · rw [tr_sp_lo hi]
    rcases Nat.lt_or_ge k q with z | z
    · rw [tr_sp_lo z]; exact b3 k x (by omega)
    · rcases Nat.lt_or_ge k (q + m) with w | w
      · rw [tr_sp_md z w]; have := hE (k - q) (by omega); omega
      · rw [tr_sp_hi' w]; exact b3 (k - m) (by omega) (by omega)
  · rw [tr_sp_lo hi, tr_sp_hi hb]; exact b4 (by omega)
theorem tr_SP_beq (S : tr_SP c q m p D E) {i : Nat} (hi : i < q) (hb : q ≤ tr_be c D i) (hd : D p < D i) : tr_be c D i = q := by
  have hq := tr_SP_q S
  obtain ⟨b1, b2, b3, b4⟩ := tr_be_spec (c := c) (D := D) (i := i) (by omega)
  rcases Nat.lt_or_ge q (tr_be c D i) with z | z
  · have := b3 q hi z
    have := tr_SP_Dq S (by omega)
    omega
  · omega
theorem tr_SP_be3 (S : tr_SP c q m p D E) {i : Nat} (hi : i < q) (hb : q ≤ tr_be c D i) (hd : D p < D i) : tr_be (c + m) (tr_sp q m D E) i = q := by
  have hq := tr_SP_q S
  have e := tr_SP_beq S hi hb hd
  obtain ⟨b1, b2, b3, b4⟩ := tr_be_spec (c := c) (D := D) (i := i) (by omega)
  obtain ⟨h1, h2, h3, h4, h5, h6, h7, h8, h9⟩ := S
  refine tr_be_eq ⟨hi, by omega, fun k x y => ?_, fun z => ?_⟩
  · rw [tr_sp_lo hi, tr_sp_lo y]; exact b3 k x (by omega)
  · rw [tr_sp_lo hi, tr_sp_q h6]; omega
theorem tr_SP_be4 (S : tr_SP c q m p D E) {i : Nat} (hi : q ≤ i) (hc : i < c) : tr_be (c + m) (tr_sp q m D E) (i + m) = tr_be c D i + m := by
  obtain ⟨b1, b2, b3, b4⟩ := tr_be_spec (c := c) (D := D) (i := i) hc
  refine tr_be_eq ⟨by omega, by omega, fun k x y => ?_, fun z => ?_⟩
  · rw [tr_sp_hi hi, tr_sp_hi' (by omega)]; exact b3 (k - m) (by omega) (by omega)
  · rw [tr_sp_hi hi, tr_sp_hi (by omega)]; exact b4 (by omega)
theorem tr_SP_be5 (S : tr_SP c q m p D E) {j : Nat} (hj : j < m) : tr_be (c + m) (tr_sp q m D E) (q + j) = q + tr_be m E j := by
  have hq := tr_SP_q S
  have hE := tr_SP_E S hj
  have hDq := tr_SP_Dq S
  obtain ⟨b1, b2, b3, b4⟩ := tr_be_spec (c := m) (D := E) (i := j) hj
  refine tr_be_eq ⟨by omega, by omega, fun k x y => ?_, fun z => ?_⟩
  · rw [tr_sp_mid hj, tr_sp_md (by omega) (by omega)]; exact b3 (k - q) (by omega) (by omega)
  · rw [tr_sp_mid hj]
    rcases Nat.lt_or_ge (tr_be m E j) m with w | w
    · rw [tr_sp_mid w]; exact b4 w
    · have e : tr_be m E j = m := by omega
      rw [e, tr_sp_hi (Nat.le_refl q)]
      have := hDq (by omega)
      omega
theorem tr_SP_pr1 (S : tr_SP c q m p D E) {i : Nat} (hc : i < c) : tr_pr (tr_sp q m D E) (tr_sh q m i) = (tr_pr D i).map (tr_sh q m) := by
  have hq := tr_SP_q S
  rcases Nat.lt_or_ge i q with z | z
  · rw [tr_sh_lo z]
    have e : tr_pr (tr_sp q m D E) i = tr_pr D i := by
      unfold tr_pr
      rw [tr_sp_lo z]
      exact tr_ps_congr i (fun j hj => tr_sp_lo (by omega))
    rw [e]
    cases w : tr_pr D i with
    | none => rfl
    | some y =>
      have := (tr_pr_some w).1
      show some y = some (tr_sh q m y)
      rw [tr_sh_lo (by omega)]
  · rw [tr_sh_hi z]
    obtain ⟨y, e, y1, y2, y3⟩ := tr_pr_ex S.1 (i := i) (by have := S.2.1; omega) hc
    rw [e]
    show _ = some (tr_sh q m y)
    apply tr_pr_of
    have hE := fun j (hj : j < m) => tr_SP_E S hj
    have hDq := tr_SP_Dq S (by omega)
    rcases Nat.lt_or_ge y q with w | w
    · rw [tr_sh_lo w]
      refine ⟨by omega, by rw [tr_sp_lo w, tr_sp_hi z]; exact y2, fun k a b => ?_⟩
      rw [tr_sp_hi z]
      rcases Nat.lt_or_ge k q with x | x
      · rw [tr_sp_lo x]; exact y3 k a (by omega)
      · rcases Nat.lt_or_ge k (q + m) with v | v
        · rw [tr_sp_md x v]
          have := hE (k - q) (by omega)
          by_cases e2 : q = i
          · rw [e2] at hDq; omega
          · have := y3 q w (by omega); omega
        · rw [tr_sp_hi' v]
          exact y3 (k - m) (by omega) (by omega)
    · rw [tr_sh_hi w]
      refine ⟨by omega, by rw [tr_sp_hi w, tr_sp_hi z]; exact y2, fun k a b => ?_⟩
      rw [tr_sp_hi z, tr_sp_hi' (by omega)]
      exact y3 (k - m) (by omega) (by omega)
theorem tr_SP_pr2 (S : tr_SP c q m p D E) : tr_pr (tr_sp q m D E) q = some p := by
  have hbt := fun k => tr_SP_bt S (k := k)
  obtain ⟨h1, h2, h3, h4, h5, h6, h7, h8, h9⟩ := S
  apply tr_pr_of
  refine ⟨h2, by rw [tr_sp_lo h2, tr_sp_q h6]; omega, fun k a b => ?_⟩
  rw [tr_sp_q h6, tr_sp_lo b]
  have := hbt k a b
  omega
theorem tr_SP_pr3 (S : tr_SP c q m p D E) {j : Nat} (h0 : 0 < j) (hj : j < m) : ∃ y, y < j ∧ tr_pr E j = some y ∧ tr_pr (tr_sp q m D E) (q + j) = some (q + y) := by
  obtain ⟨h1, h2, h3, h4, h5, h6, h7, h8, h9⟩ := S
  cases w : tr_pr E j with
  | none => have := tr_ps_none j w 0 h0; have := h8 j h0 hj; omega
  | some y =>
    obtain ⟨y1, y2, y3⟩ := tr_pr_some w
    refine ⟨y, y1, rfl, tr_pr_of ⟨by omega, by rw [tr_sp_mid hj, tr_sp_mid (by omega)]; exact y2, fun k a b => ?_⟩⟩
    rw [tr_sp_mid hj, tr_sp_md (by omega) (by omega)]
    exact y3 (k - q) (by omega) (by omega)
theorem tr_SP_fc1 (S : tr_SP c q m p D E) {i : Nat} (hc : i < c) (hn : ¬ (i = p ∧ q = p + 1)) : tr_fc (c + m) (tr_sp q m D E) (tr_sh q m i) = (tr_fc c D i).map (tr_sh q m) := by
  have hq := tr_SP_q S
  have hDq := tr_SP_Dq S
  have hbt := fun k => tr_SP_bt S (k := k)
  obtain ⟨h1, h2, h3, h4, h5, h6, h7, h8, h9⟩ := S
  unfold tr_fc
  rcases Nat.lt_trichotomy (i + 1) q with z | z | z
  · rw [tr_sh_lo (by omega), tr_sp_lo (by omega), tr_sp_lo z]
    by_cases w : D i < D (i + 1)
    · rw [if_pos ⟨by omega, w⟩, if_pos ⟨by omega, w⟩]
      show _ = some (tr_sh q m (i + 1))
      rw [tr_sh_lo z]
    · rw [if_neg (fun y => w y.2), if_neg (fun y => w y.2)]; rfl
  · have g : D p < D i := hbt i (by omega) (by omega)
    rw [tr_sh_lo (by omega), tr_sp_lo (by omega), z, tr_sp_q h6, if_neg (by omega), if_neg]
    · rfl
    · rintro ⟨y1, y2⟩; have := hDq y1; omega
  · rw [tr_sh_hi (by omega), tr_sp_hi (by omega), show i + m + 1 = i + 1 + m by omega, tr_sp_hi (by omega)]
    by_cases w : i + 1 < c ∧ D i < D (i + 1)
    · rw [if_pos w, if_pos ⟨by omega, w.2⟩]
      show _ = some (tr_sh q m (i + 1))
      rw [tr_sh_hi (by omega)]
    · rw [if_neg w, if_neg (fun y => w ⟨by omega, y.2⟩)]; rfl
theorem tr_SP_fc2 (S : tr_SP c q m p D E) (h : q = p + 1) : tr_fc (c + m) (tr_sp q m D E) p = some q := by
  obtain ⟨h1, h2, h3, h4, h5, h6, h7, h8, h9⟩ := S
  unfold tr_fc
  rw [← h, tr_sp_q h6, tr_sp_lo h2, if_pos ⟨by omega, by omega⟩]
theorem tr_SP_fc3 (S : tr_SP c q m p D E) {j : Nat} (hj : j < m) : tr_fc (c + m) (tr_sp q m D E) (q + j) = (tr_fc m E j).map (q + ·) := by
  have hq := tr_SP_q S
  have hDq := tr_SP_Dq S
  have hE := tr_SP_E S hj
  unfold tr_fc
  rw [tr_sp_mid hj]
  rcases Nat.lt_or_ge (j + 1) m with z | z
  · rw [show q + j + 1 = q + (j + 1) by omega, tr_sp_mid z]
    by_cases w : E j < E (j + 1)
    · rw [if_pos ⟨by omega, w⟩, if_pos ⟨z, w⟩]; rfl
    · rw [if_neg (fun y => w y.2), if_neg (fun y => w y.2)]; rfl
  · rw [show q + j + 1 = q + m by omega, tr_sp_hi (Nat.le_refl q), if_neg (by rintro ⟨y1, y2⟩; have := hDq (by omega); omega), if_neg (by omega)]; rfl
theorem tr_SP_nx1 (S : tr_SP c q m p D E) {i : Nat} (hc : i < c) (hn : ¬ (p < i ∧ D i = D p + 1 ∧ tr_be c D i = q)) : tr_nx (c + m) (tr_sp q m D E) (tr_sh q m i) = (tr_nx c D i).map (tr_sh q m) := by
  have hq := tr_SP_q S
  have hDq := tr_SP_Dq S
  have hb := tr_be_spec (D := D) hc
  unfold tr_nx
  rcases Nat.lt_or_ge i q with z | z
  · rw [tr_sh_lo z]
    rcases Nat.lt_or_ge (tr_be c D i) q with w | w
    · rw [tr_SP_be1 S z w, tr_sp_lo w, tr_sp_lo z]
      by_cases y : D (tr_be c D i) = D i
      · rw [if_pos ⟨by omega, y⟩, if_pos ⟨by omega, y⟩]
        show _ = some (tr_sh q m _)
        rw [tr_sh_lo w]
      · rw [if_neg (fun k => y k.2), if_neg (fun k => y k.2)]; rfl
    · rcases Nat.lt_or_ge (D p) (D i) with y | y
      · have e := tr_SP_beq S z w y
        rw [tr_SP_be3 S z w y, e, tr_sp_q S.2.2.2.2.2.1, tr_sp_lo z]
        have e0 := S.2.2.2.2.2.2.1
        have ne : ¬ D i = D p + 1 := by
          intro k
          apply hn
          refine ⟨?_, k, e⟩
          rcases Nat.lt_trichotomy p i with a | a | a
          · exact a
          · rw [a] at k; omega
          · have := hb.2.2.1 p a (by have := S.2.1; omega); omega
        rw [if_neg (by omega), if_neg (by rintro ⟨k1, k2⟩; have := hDq k1; omega)]; rfl
      · rw [tr_SP_be2 S z w y, tr_sp_hi w, tr_sp_lo z]
        by_cases k : tr_be c D i < c ∧ D (tr_be c D i) = D i
        · rw [if_pos k, if_pos ⟨by omega, k.2⟩]
          show _ = some (tr_sh q m _)
          rw [tr_sh_hi w]
        · rw [if_neg k, if_neg (fun x => k ⟨by omega, x.2⟩)]; rfl
  · have b1 := hb.1
    rw [tr_sh_hi z, tr_SP_be4 S z hc, tr_sp_hi (by omega), tr_sp_hi z]
    by_cases k : tr_be c D i < c ∧ D (tr_be c D i) = D i
    · rw [if_pos k, if_pos ⟨by omega, k.2⟩]
      show _ = some (tr_sh q m _)
      rw [tr_sh_hi (by omega)]
    · rw [if_neg k, if_neg (fun x => k ⟨by omega, x.2⟩)]; rfl
theorem tr_SP_nx2 (S : tr_SP c q m p D E) {i : Nat} (h1 : p < i) (h2 : D i = D p + 1) (h3 : tr_be c D i = q) (hc : i < c) : tr_nx (c + m) (tr_sp q m D E) i = some q := by
  have hq := tr_SP_q S
  have hb := (tr_be_spec (D := D) hc).1
  unfold tr_nx
  rw [tr_SP_be3 S (by omega) (by omega) (by omega), tr_sp_q S.2.2.2.2.2.1, tr_sp_lo (by omega), S.2.2.2.2.2.2.1, if_pos ⟨by have := S.2.2.2.2.2.1; omega, h2.symm⟩]
theorem tr_SP_be0 (S : tr_SP c q m p D E) : tr_be m E 0 = m := by
  obtain ⟨h1, h2, h3, h4, h5, h6, h7, h8, h9⟩ := S
  exact tr_be_eq ⟨h6, Nat.le_refl _, fun k a b => h8 k a b, fun z => by omega⟩
theorem tr_SP_nx3 (S : tr_SP c q m p D E) : tr_nx (c + m) (tr_sp q m D E) q = if q < tr_be c D p then some (q + m) else none := by
  have hq := tr_SP_q S
  have h := tr_SP_be5 S (j := 0) S.2.2.2.2.2.1
  rw [tr_SP_be0 S] at h
  have e0 := S.2.2.2.2.2.2.1
  have hp := tr_be_spec (D := D) S.2.2.2.1
  unfold tr_nx
  rw [show tr_be (c + m) (tr_sp q m D E) q = q + m from h, tr_sp_hi (Nat.le_refl q), tr_sp_q S.2.2.2.2.2.1]
  by_cases z : q < tr_be c D p
  · rw [if_pos z, if_pos ⟨by have := hp.2.1; omega, by rw [S.2.2.2.2.1 z]; omega⟩]
  · rw [if_neg z, if_neg]
    rintro ⟨y1, y2⟩
    have e : tr_be c D p = q := by have := S.2.2.1; omega
    have := hp.2.2.2
    rw [e] at this
    have := this (by omega)
    omega
theorem tr_SP_nx4 (S : tr_SP c q m p D E) {j : Nat} (h0 : 0 < j) (hj : j < m) : tr_nx (c + m) (tr_sp q m D E) (q + j) = (tr_nx m E j).map (q + ·) := by
  have hq := tr_SP_q S
  have hDq := tr_SP_Dq S
  have hb := tr_be_spec (D := E) hj
  have h8 := S.2.2.2.2.2.2.2.1 j h0 hj
  have h7 := S.2.2.2.2.2.2.1
  unfold tr_nx
  rw [tr_SP_be5 S hj, tr_sp_mid hj]
  rcases Nat.lt_or_ge (tr_be m E j) m with z | z
  · rw [tr_sp_mid z]
    by_cases w : E (tr_be m E j) = E j
    · rw [if_pos ⟨by omega, w⟩, if_pos ⟨z, w⟩]; rfl
    · rw [if_neg (fun y => w y.2), if_neg (fun y => w y.2)]; rfl
  · have e : tr_be m E j = m := by have := hb.2.1; omega
    rw [e, tr_sp_hi (Nat.le_refl q), if_neg (by rintro ⟨y1, y2⟩; have := hDq (by omega); omega), if_neg (by omega)]; rfl
end
end
section
/-! ===== taking a block out; children by hops; links ===== -/
def tr_cut (a m : Nat) (f : Nat → Nat) : Nat → Nat := fun i => if i < a then f i else f (i + m)
theorem tr_cut_lo {a m i : Nat} {f : Nat → Nat} (h : i < a) : tr_cut a m f i = f i := if_pos h
theorem tr_cut_hi {a m i : Nat} {f : Nat → Nat} (h : a ≤ i) : tr_cut a m f i = f (i + m) := if_neg (by omega)
theorem tr_cut_sh {a m i : Nat} {f : Nat → Nat} : f (tr_sh a m i) = tr_cut a m f i := by
  unfold tr_sh tr_cut
  by_cases h : i < a
  · rw [if_pos h, if_pos h]
  · rw [if_neg h, if_neg h]
theorem tr_cut_sp (a m : Nat) (f : Nat → Nat) : tr_sp a m (tr_cut a m f) (fun j => f (a + j)) = f := by
  funext i
  rcases Nat.lt_or_ge i a with h | h
  · rw [tr_sp_lo h, tr_cut_lo h]
  · rcases Nat.lt_or_ge i (a + m) with k | k
    · rw [tr_sp_md h k]; show f _ = _; congr 1; omega
    · rw [tr_sp_hi' k, tr_cut_hi (by omega)]; congr 1; omega
theorem tr_dec {c a p : Nat} {D : Nat → Nat} (h : tr_W c D) (ha : a < c) (hp : tr_Pa D a p) : tr_SP (c - (tr_be c D a - a)) a (tr_be c D a - a) p (tr_cut a (tr_be c D a - a) D) (fun j => D (a + j)) := by
  obtain ⟨b1, b2, b3, b4⟩ := tr_be_spec (D := D) ha
  obtain ⟨p1, p2, p3⟩ := (tr_Pa_be h ha).mp hp
  obtain ⟨d1, d2, d3, d4⟩ := tr_be_spec (c := c) (D := D) (i := p) (by omega)
  generalize he : tr_be c D a = e at *
  generalize hm : e - a = m
  generalize hf : tr_be c D p = f at *
  have hef : e ≤ f := by
    rcases Nat.lt_or_ge f e with z | z
    · have := b3 f p2 z
      have := d4 (by omega)
      omega
    · exact z
  have hB : tr_be (c - m) (tr_cut a m D) p = f - m := by
    refine tr_be_eq ⟨by omega, by omega, fun k x y => ?_, fun z => ?_⟩
    · rw [tr_cut_lo p1]
      rcases Nat.lt_or_ge k a with w | w
      · rw [tr_cut_lo w]; exact d3 k x (by omega)
      · rw [tr_cut_hi w]; exact d3 (k + m) (by omega) (by omega)
    · rw [tr_cut_lo p1, tr_cut_hi (by omega), show f - m + m = f by omega]; exact d4 (by omega)
  refine ⟨⟨fun _ => ?_, fun i hi => ?_⟩, p1, by rw [hB]; omega, by omega, fun z => ?_, by omega, ?_, fun j x y => ?_, fun j x => ?_⟩
  · rw [tr_cut_lo (by omega)]; exact h.1 (by omega)
  · rcases Nat.lt_trichotomy (i + 1) a with z | z | z
    · rw [tr_cut_lo z, tr_cut_lo (by omega)]; exact h.2 i (by omega)
    · rw [tr_cut_hi (i := i + 1) (by omega), tr_cut_lo (by omega), show i + 1 + m = e by omega]
      have := b4 (by omega)
      have := tr_W_pos h (i := e) (by omega) (by omega)
      have := (h.2 i (by omega)).2
      rw [z] at this
      omega
    · rw [tr_cut_hi (i := i + 1) (by omega), tr_cut_hi (by omega), show i + 1 + m = i + m + 1 by omega]; exact h.2 (i + m) (by omega)
  · rw [hB] at z
    rw [tr_cut_hi (Nat.le_refl a), tr_cut_lo p1, show a + m = e by omega]
    have := d3 e (by omega) (by omega)
    have := b4 (by omega)
    omega
  · show D (a + 0) = _
    rw [tr_cut_lo p1]; exact p3
  · show D (a + 0) < D (a + j)
    exact b3 (a + j) (by omega) (by omega)
  · show D (a + (j + 1)) ≤ D (a + j) + 1
    exact (h.2 (a + j) (by omega)).2
/-! children -/
def tr_Cb (c : Nat) (D : Nat → Nat) (p x : Nat) : Prop := p < x ∧ x ≤ tr_be c D p ∧ (x < tr_be c D p → D x = D p + 1)
theorem tr_Cb_0 {c : Nat} {D : Nat → Nat} (h : tr_W c D) {p : Nat} (hp : p < c) : tr_Cb c D p (p + 1) := by
  obtain ⟨d1, d2, d3, d4⟩ := tr_be_spec (D := D) hp
  refine ⟨by omega, d1, fun z => ?_⟩
  have := d3 (p + 1) (by omega) z
  have := (h.2 p (by omega)).2
  omega
theorem tr_Cb_s {c : Nat} {D : Nat → Nat} {p x : Nat} (hp : p < c) (hx : tr_Cb c D p x) (hl : x < tr_be c D p) : tr_Cb c D p (tr_be c D x) ∧ x < tr_be c D x := by
  obtain ⟨d1, d2, d3, d4⟩ := tr_be_spec (D := D) hp
  obtain ⟨b1, b2, b3, b4⟩ := tr_be_spec (c := c) (D := D) (i := x) (by omega)
  obtain ⟨x1, x2, x3⟩ := hx
  have x3 := x3 hl
  have hle : tr_be c D x ≤ tr_be c D p := by
    rcases Nat.lt_or_ge (tr_be c D p) (tr_be c D x) with z | z
    · have := b3 _ hl z
      have := d4 (by omega)
      omega
    · exact z
  refine ⟨⟨by omega, hle, fun z => ?_⟩, b1⟩
  have := d3 _ (by omega) z
  have := b4 (by omega)
  omega
def tr_Hn (c : Nat) (D : Nat → Nat) (p : Nat) : Nat → Nat → Prop
  | 0, x => x = tr_be c D p
  | k + 1, x => x < tr_be c D p ∧ tr_Hn c D p k (tr_be c D x)
theorem tr_Hn_ex {c : Nat} {D : Nat → Nat} {p : Nat} (hp : p < c) : ∀ n x, tr_be c D p - x < n → tr_Cb c D p x → ∃ K, tr_Hn c D p K x := by
  intro n
  induction n with
  | zero => intro x h; omega
  | succ n ih =>
    intro x h hx
    rcases Nat.lt_or_ge x (tr_be c D p) with z | z
    · obtain ⟨a, b⟩ := tr_Cb_s hp hx z
      obtain ⟨K, hK⟩ := ih (tr_be c D x) (by omega) a
      exact ⟨K + 1, z, hK⟩
    · exact ⟨0, by have := hx.2.1; show x = _; omega⟩
theorem tr_Hn_le {c : Nat} {D : Nat → Nat} {p : Nat} (hp : p < c) : ∀ K x, tr_Cb c D p x → tr_Hn c D p K x → x + K ≤ tr_be c D p := by
  intro K
  induction K with
  | zero => intro x _ h; have h : x = _ := h; omega
  | succ K ih =>
    intro x hx h
    obtain ⟨a, b⟩ := tr_Cb_s hp hx h.1
    have := ih _ a h.2
    omega
def tr_it (c : Nat) (D : Nat → Nat) : Nat → Nat → Nat
  | 0, x => x
  | k + 1, x => tr_it c D k (tr_be c D x)
theorem tr_it_Cb {c : Nat} {D : Nat → Nat} {p : Nat} (hp : p < c) : ∀ k K x, tr_Cb c D p x → tr_Hn c D p K x → k ≤ K → tr_Cb c D p (tr_it c D k x) ∧ tr_Hn c D p (K - k) (tr_it c D k x) := by
  intro k
  induction k with
  | zero => intro K x hx hK _; exact ⟨hx, hK⟩
  | succ k ih =>
    intro K x hx hK hk
    obtain ⟨K, rfl⟩ : ∃ j, K = j + 1 := ⟨K - 1, by omega⟩
    obtain ⟨a, b⟩ := tr_Cb_s hp hx hK.1
    have := ih K _ a hK.2 (by omega)
    rw [show K + 1 - (k + 1) = K - k by omega]
    exact this
theorem tr_Hn_0 {c : Nat} {D : Nat → Nat} {p x : Nat} {K : Nat} (h : tr_Hn c D p K x) : (x < tr_be c D p → 0 < K) ∧ (x = tr_be c D p → K = 0) := by
  cases K with
  | zero => have h : x = _ := h; exact ⟨fun z => by omega, fun _ => rfl⟩
  | succ K => have := h.1; exact ⟨fun _ => by omega, fun z => by omega⟩
/-! counting -/
def tr_nc (f : Nat → Bool) : Nat → Nat
  | 0 => 0
  | n + 1 => tr_nc f n + (f n).toNat
theorem tr_nc_add (f : Nat → Bool) (a : Nat) : ∀ b, tr_nc f (a + b) = tr_nc f a + tr_nc (fun j => f (a + j)) b
  | 0 => rfl
  | b + 1 => by
    show tr_nc f (a + b) + (f (a + b)).toNat = _
    rw [tr_nc_add f a b]
    show _ = tr_nc f a + (tr_nc (fun j => f (a + j)) b + (f (a + b)).toNat)
    omega
theorem tr_nc_congr {f g : Nat → Bool} : ∀ n, (∀ i, i < n → f i = g i) → tr_nc f n = tr_nc g n
  | 0, _ => rfl
  | n + 1, h => by
    simp only [tr_nc]
    rw [tr_nc_congr n (fun i hi => h i (by omega)), h n (by omega)]
theorem tr_nc_zero {f : Nat → Bool} : ∀ n, (∀ i, i < n → f i = false) → tr_nc f n = 0
  | 0, _ => rfl
  | n + 1, h => by
    simp only [tr_nc]
    rw [tr_nc_zero n (fun i hi => h i (by omega)), h n (by omega)]; rfl
def tr_kid (D : Nat → Nat) (p i : Nat) : Bool := decide (tr_pr D i = some p)
theorem tr_Hn_nc {c : Nat} {D : Nat → Nat} (W : tr_W c D) {p : Nat} (hp : p < c) : ∀ K x, tr_Cb c D p x → tr_Hn c D p K x → tr_nc (tr_kid D p) (tr_be c D p) = tr_nc (tr_kid D p) x + K := by
  intro K
  induction K with
  | zero => intro x _ h; have h : x = _ := h; rw [← h]; rfl
  | succ K ih =>
    intro x hx h
    obtain ⟨a, b⟩ := tr_Cb_s hp hx h.1
    rw [ih _ a h.2]
    have hb := (tr_be_spec (D := D) hp).2.1
    obtain ⟨b1, b2, b3, b4⟩ := tr_be_spec (c := c) (D := D) (i := x) (by have := h.1; omega)
    obtain ⟨t, ht⟩ : ∃ t, tr_be c D x = x + (1 + t) := ⟨tr_be c D x - x - 1, by omega⟩
    have hD := hx.2.2 h.1
    rw [ht, tr_nc_add, tr_nc_add, tr_nc_zero t]
    · have e : tr_kid D p (x + 0) = true := by
        apply decide_eq_true
        apply tr_pr_of
        exact (tr_Pa_be W (by have := h.1; omega)).mpr ⟨hx.1, h.1, hD⟩
      have e1 : tr_nc (fun j => tr_kid D p (x + j)) 1 = 1 := by
        show 0 + (tr_kid D p (x + 0)).toNat = 1
        rw [e]; rfl
      rw [e1]
      omega
    · intro i hi
      apply decide_eq_false
      intro z
      have := (tr_Pa_be W (by omega)).mp (tr_pr_some z)
      have := b3 (x + (1 + i)) (by omega) (by omega)
      omega
theorem tr_Hn_K {c : Nat} {D : Nat → Nat} (W : tr_W c D) {p K : Nat} (hp : p < c) (h : tr_Hn c D p K (p + 1)) : K = tr_nc (tr_kid D p) c := by
  have h1 := tr_Hn_nc W hp K (p + 1) (tr_Cb_0 W hp) h
  rw [tr_nc_zero (p + 1)] at h1
  · have hb := (tr_be_spec (D := D) hp).2.1
    obtain ⟨t, ht⟩ : ∃ t, c = tr_be c D p + t := ⟨c - tr_be c D p, by omega⟩
    have : tr_nc (tr_kid D p) c = tr_nc (tr_kid D p) (tr_be c D p) := by
      have e := tr_nc_add (tr_kid D p) (tr_be c D p) t
      rw [← ht] at e
      rw [e, tr_nc_zero t]; rfl
      intro i hi
      apply decide_eq_false
      intro z
      have := (tr_Pa_be W (by omega)).mp (tr_pr_some z)
      omega
    omega
  · intro i hi
    apply decide_eq_false
    intro z
    have := (tr_pr_some z).1
    omega
theorem tr_sh_inj {q m x y : Nat} (h : tr_sh q m x = tr_sh q m y) : x = y := by
  unfold tr_sh at h
  by_cases a : x < q <;> by_cases b : y < q <;> simp [a, b] at h <;> omega
theorem tr_SP_nc {c q m p : Nat} {D E : Nat → Nat} (S : tr_SP c q m p D E) {x : Nat} (hx : x < c) : tr_nc (tr_kid (tr_sp q m D E) (tr_sh q m x)) (c + m) = tr_nc (tr_kid D x) c + (if x = p then 1 else 0) := by
  have hq := tr_SP_q S
  have h2 := S.2.1
  have h6 := S.2.2.2.2.2.1
  obtain ⟨t, ht⟩ : ∃ t, c = q + t := ⟨c - q, by omega⟩
  have key : ∀ i, i < c → tr_kid (tr_sp q m D E) (tr_sh q m x) (tr_sh q m i) = tr_kid D x i := by
    intro i hi
    unfold tr_kid
    rw [tr_SP_pr1 S hi]
    cases e : tr_pr D i with
    | none => simp
    | some y =>
      show decide (some (tr_sh q m y) = some (tr_sh q m x)) = decide (some y = some x)
      by_cases z : y = x
      · rw [z]
        exact (decide_eq_true rfl).trans (decide_eq_true rfl).symm
      · rw [decide_eq_false (fun w => z (tr_sh_inj (Option.some.inj w))), decide_eq_false (fun w => z (Option.some.inj w))]
  have e1 : tr_nc (tr_kid D x) c = tr_nc (tr_kid D x) q + tr_nc (fun j => tr_kid D x (q + j)) t := by rw [ht, tr_nc_add]
  rw [show c + m = q + (m + t) by omega, tr_nc_add, tr_nc_add, e1]
  have a1 : tr_nc (tr_kid (tr_sp q m D E) (tr_sh q m x)) q = tr_nc (tr_kid D x) q := tr_nc_congr q (fun i hi => by rw [← key i (by omega), tr_sh_lo hi])
  have a2 : tr_nc (fun j => tr_kid (tr_sp q m D E) (tr_sh q m x) (q + (m + j))) t = tr_nc (fun j => tr_kid D x (q + j)) t := tr_nc_congr t (fun i hi => by
    rw [← key (q + i) (by omega), show tr_sh q m (q + i) = q + (m + i) by rw [tr_sh_hi (by omega)]; omega])
  have a3 : tr_nc (fun j => tr_kid (tr_sp q m D E) (tr_sh q m x) (q + j)) m = if x = p then 1 else 0 := by
    obtain ⟨k, rfl⟩ : ∃ k, m = 1 + k := ⟨m - 1, by omega⟩
    rw [tr_nc_add, tr_nc_zero k]
    · have e0 : tr_kid (tr_sp q (1 + k) D E) (tr_sh q (1 + k) x) q = decide (x = p) := by
        unfold tr_kid
        rw [tr_SP_pr2 S]
        by_cases z : x = p
        · rw [z, tr_sh_lo h2]
          exact (decide_eq_true rfl).trans (decide_eq_true rfl).symm
        · rw [decide_eq_false z]
          apply decide_eq_false
          intro w
          have := Option.some.inj w
          apply z
          apply tr_sh_inj (q := q) (m := 1 + k)
          rw [← this, tr_sh_lo h2]
      show 0 + (tr_kid (tr_sp q (1 + k) D E) (tr_sh q (1 + k) x) q).toNat + 0 = _
      rw [e0]
      by_cases z : x = p <;> simp [z]
    · intro i hi
      obtain ⟨y, y1, y2, y3⟩ := tr_SP_pr3 S (j := 1 + i) (by omega) (by omega)
      apply decide_eq_false
      intro w
      have w' : tr_pr (tr_sp q (1 + k) D E) (q + (1 + i)) = some (tr_sh q (1 + k) x) := w
      rw [y3] at w'
      have := Option.some.inj w'
      unfold tr_sh at this
      by_cases v : x < q
      · rw [if_pos v] at this; omega
      · rw [if_neg v] at this; omega
  rw [a1, a2, a3]
  omega
/-! links by node -/
def tr_nd (r : Nat → Nat) : Option Nat → Int32
  | none => -1
  | some j => nI (r j)
theorem tr_nd_sh {q m : Nat} {r b : Nat → Nat} : ∀ o : Option Nat, tr_nd (tr_sp q m r b) (o.map (tr_sh q m)) = tr_nd r o
  | none => rfl
  | some i => by show nI (tr_sp q m r b (tr_sh q m i)) = nI (r i); rw [tr_sp_sh]
theorem tr_nd_mid {q m : Nat} {r b : Nat → Nat} : ∀ o : Option Nat, (∀ j, o = some j → j < m) → tr_nd (tr_sp q m r b) (o.map (q + ·)) = tr_nd b o
  | none, _ => rfl
  | some i, h => by show nI (tr_sp q m r b (q + i)) = nI (b i); rw [tr_sp_mid (h i rfl)]
theorem tr_fc_lt {c : Nat} {D : Nat → Nat} {i j : Nat} (h : tr_fc c D i = some j) : j < c := by
  unfold tr_fc at h
  by_cases z : i + 1 < c ∧ D i < D (i + 1)
  · rw [if_pos z] at h; have := Option.some.inj h; omega
  · rw [if_neg z] at h; exact absurd h (by simp)
theorem tr_nx_lt {c : Nat} {D : Nat → Nat} {i j : Nat} (h : tr_nx c D i = some j) : j < c := by
  unfold tr_nx at h
  by_cases z : tr_be c D i < c ∧ D (tr_be c D i) = D i
  · rw [if_pos z] at h; have := Option.some.inj h; omega
  · rw [if_neg z] at h; exact absurd h (by simp)
def tr_LK (c : Nat) (D r : Nat → Nat) (fi ne pa : Nat → Int32) : Prop := ∀ i, i < c → fi (r i) = tr_nd r (tr_fc c D i) ∧ ne (r i) = tr_nd r (tr_nx c D i) ∧ pa (r i) = tr_nd r (tr_pr D i)
def tr_LB (m : Nat) (E b : Nat → Nat) (fi ne pa : Nat → Int32) : Prop := ∀ j, j < m → fi (b j) = tr_nd b (tr_fc m E j) ∧ (0 < j → ne (b j) = tr_nd b (tr_nx m E j) ∧ pa (b j) = tr_nd b (tr_pr E j))
def tr_inj (c : Nat) (r : Nat → Nat) : Prop := ∀ i j, i < c → j < c → r i = r j → i = j
theorem tr_cases {c q m k : Nat} (hq : q ≤ c) (hk : k < c + m) : (∃ i, i < c ∧ k = tr_sh q m i) ∨ ∃ j, j < m ∧ k = q + j := by
  rcases Nat.lt_or_ge k q with z | z
  · exact Or.inl ⟨k, by omega, by rw [tr_sh_lo z]⟩
  · rcases Nat.lt_or_ge k (q + m) with w | w
    · exact Or.inr ⟨k - q, by omega, by omega⟩
    · exact Or.inl ⟨k - m, by omega, by rw [tr_sh_hi (by omega)]; omega⟩
theorem tr_inj_sp {c q m : Nat} {r b : Nat → Nat} (hq : q ≤ c) (h1 : tr_inj c r) (h2 : tr_inj m b) (h3 : ∀ i j, i < c → j < m → r i ≠ b j) : tr_inj (c + m) (tr_sp q m r b) := by
  intro x y hx hy e
  rcases tr_cases hq hx with ⟨i, hi, rfl⟩ | ⟨i, hi, rfl⟩ <;> rcases tr_cases hq hy with ⟨j, hj, rfl⟩ | ⟨j, hj, rfl⟩
  · rw [tr_sp_sh, tr_sp_sh] at e; rw [h1 i j hi hj e]
  · rw [tr_sp_sh, tr_sp_mid hj] at e; exact absurd e (h3 i j hi hj)
  · rw [tr_sp_sh, tr_sp_mid hi] at e; exact absurd e.symm (h3 j i hj hi)
  · rw [tr_sp_mid hi, tr_sp_mid hj] at e; rw [h2 i j hi hj e]
end
section
/-! ===== links of the tree with a block and without it ===== -/
def tr_w (c : Nat) (D r : Nat → Nat) (p q : Nat) : Int32 := if q < tr_be c D p then nI (r q) else -1
def tr_pv (c : Nat) (D : Nat → Nat) (p q i : Nat) : Prop := p < i ∧ D i = D p + 1 ∧ tr_be c D i = q
section
variable {c q m p : Nat} {D E r b : Nat → Nat}
theorem tr_w1 (S : tr_SP c q m p D E) (h : q = p + 1) : tr_nd r (tr_fc c D p) = tr_w c D r p q := by
  obtain ⟨d1, d2, d3, d4⟩ := tr_be_spec (D := D) S.2.2.2.1
  unfold tr_fc tr_w
  by_cases z : q < tr_be c D p
  · rw [if_pos z, if_pos ⟨by omega, d3 (p + 1) (by omega) (by omega)⟩, h]; rfl
  · rw [if_neg z, if_neg]
    · rfl
    · rintro ⟨y1, y2⟩
      have e : tr_be c D p = p + 1 := by have := S.2.2.1; omega
      rw [e] at d4
      have := d4 y1
      omega
theorem tr_w2 (S : tr_SP c q m p D E) {i : Nat} (h : tr_pv c D p q i) : tr_nd r (tr_nx c D i) = tr_w c D r p q := by
  obtain ⟨h1, h2, h3⟩ := h
  obtain ⟨d1, d2, d3, d4⟩ := tr_be_spec (D := D) S.2.2.2.1
  unfold tr_nx tr_w
  rw [h3]
  by_cases z : q < tr_be c D p
  · rw [if_pos z, if_pos ⟨by omega, by rw [S.2.2.2.2.1 z]; omega⟩]; rfl
  · rw [if_neg z, if_neg]
    · rfl
    · rintro ⟨y1, y2⟩
      have e : tr_be c D p = q := by have := S.2.2.1; omega
      rw [e] at d4
      have := d4 y1
      omega
theorem tr_w3 (S : tr_SP c q m p D E) : tr_nd (tr_sp q m r b) (tr_nx (c + m) (tr_sp q m D E) q) = tr_w c D r p q := by
  rw [tr_SP_nx3 S]
  unfold tr_w
  by_cases z : q < tr_be c D p
  · rw [if_pos z, if_pos z]
    show nI (tr_sp q m r b (q + m)) = _
    rw [tr_sp_hi (Nat.le_refl q)]
  · rw [if_neg z, if_neg z]; rfl
theorem tr_pv_lt (S : tr_SP c q m p D E) {i : Nat} (h : tr_pv c D p q i) (hi : i < c) : i < q := by
  have := (tr_be_spec (D := D) hi).1
  have := h.2.2
  omega
theorem tr_relink (S : tr_SP c q m p D E) {fi ne pa fi' ne' pa' : Nat → Int32} (L : tr_LK c D r fi ne pa) (B : tr_LB m E b fi ne pa)
    (f1 : ∀ i, i < c → ¬ (i = p ∧ q = p + 1) → fi' (r i) = fi (r i)) (f2 : q = p + 1 → fi' (r p) = nI (b 0)) (f3 : ∀ j, j < m → fi' (b j) = fi (b j))
    (n1 : ∀ i, i < c → ¬ tr_pv c D p q i → ne' (r i) = ne (r i)) (n2 : ∀ i, i < c → tr_pv c D p q i → ne' (r i) = nI (b 0)) (n3 : ne' (b 0) = tr_w c D r p q) (n4 : ∀ j, 0 < j → j < m → ne' (b j) = ne (b j))
    (p1 : ∀ i, i < c → pa' (r i) = pa (r i)) (p2 : pa' (b 0) = nI (r p)) (p3 : ∀ j, 0 < j → j < m → pa' (b j) = pa (b j)) :
    tr_LK (c + m) (tr_sp q m D E) (tr_sp q m r b) fi' ne' pa' := by
  have hq := tr_SP_q S
  have hp := S.2.1
  have hm := S.2.2.2.2.2.1
  intro k hk
  rcases tr_cases hq hk with ⟨i, hi, rfl⟩ | ⟨j, hj, rfl⟩
  · obtain ⟨l1, l2, l3⟩ := L i hi
    rw [tr_sp_sh]
    refine ⟨?_, ?_, ?_⟩
    · by_cases z : i = p ∧ q = p + 1
      · obtain ⟨z1, z2⟩ := z
        rw [z1, f2 z2, tr_sh_lo hp, tr_SP_fc2 S z2]
        show _ = nI (tr_sp q m r b q)
        rw [tr_sp_q hm]
      · rw [f1 i hi z, tr_SP_fc1 S hi z, tr_nd_sh, l1]
    · by_cases z : tr_pv c D p q i
      · rw [n2 i hi z, tr_sh_lo (tr_pv_lt S z hi), tr_SP_nx2 S z.1 z.2.1 z.2.2 hi]
        show _ = nI (tr_sp q m r b q)
        rw [tr_sp_q hm]
      · rw [n1 i hi z, tr_SP_nx1 S hi z, tr_nd_sh, l2]
    · rw [p1 i hi, tr_SP_pr1 S hi, tr_nd_sh, l3]
  · obtain ⟨l1, l2⟩ := B j hj
    rw [tr_sp_mid hj]
    refine ⟨?_, ?_, ?_⟩
    · rw [f3 j hj, tr_SP_fc3 S hj, tr_nd_mid _ (fun k e => tr_fc_lt e), l1]
    · by_cases z : j = 0
      · rw [z, n3, Nat.add_zero, tr_w3 S]
      · rw [n4 j (by omega) hj, tr_SP_nx4 S (by omega) hj, tr_nd_mid _ (fun k e => tr_nx_lt e), (l2 (by omega)).1]
    · by_cases z : j = 0
      · rw [z, p2, Nat.add_zero, tr_SP_pr2 S]
        show _ = nI (tr_sp q m r b p)
        rw [tr_sp_lo hp]
      · obtain ⟨y, y1, y2, y3⟩ := tr_SP_pr3 S (j := j) (by omega) hj
        rw [p3 j (by omega) hj, (l2 (by omega)).2, y2, y3]
        show nI (b y) = nI (tr_sp q m r b (q + y))
        rw [tr_sp_mid (by omega)]
theorem tr_unlink (S : tr_SP c q m p D E) {fi ne pa fi' ne' : Nat → Int32} (L : tr_LK (c + m) (tr_sp q m D E) (tr_sp q m r b) fi ne pa)
    (f1 : ∀ i, i < c → ¬ (i = p ∧ q = p + 1) → fi' (r i) = fi (r i)) (f2 : q = p + 1 → fi' (r p) = ne (b 0))
    (n1 : ∀ i, i < c → ¬ tr_pv c D p q i → ne' (r i) = ne (r i)) (n2 : ∀ i, i < c → tr_pv c D p q i → ne' (r i) = ne (b 0)) :
    tr_LK c D r fi' ne' pa := by
  have hq := tr_SP_q S
  have hp := S.2.1
  have hm := S.2.2.2.2.2.1
  have hw : ne (b 0) = tr_w c D r p q := by
    have := (L q (by omega)).2.1
    rw [tr_sp_q hm, tr_w3 S] at this
    exact this
  intro i hi
  obtain ⟨l1, l2, l3⟩ := L (tr_sh q m i) (by unfold tr_sh; by_cases z : i < q <;> simp [z] <;> omega)
  rw [tr_sp_sh] at l1 l2 l3
  refine ⟨?_, ?_, ?_⟩
  · by_cases z : i = p ∧ q = p + 1
    · rw [z.1, f2 z.2, hw, tr_w1 S z.2]
    · rw [f1 i hi z, l1, tr_SP_fc1 S hi z, tr_nd_sh]
  · by_cases z : tr_pv c D p q i
    · rw [n2 i hi z, hw, tr_w2 S z]
    · rw [n1 i hi z, l2, tr_SP_nx1 S hi z, tr_nd_sh]
  · rw [l3, tr_SP_pr1 S hi, tr_nd_sh]
theorem tr_unlinkB (S : tr_SP c q m p D E) {fi ne pa : Nat → Int32} (L : tr_LK (c + m) (tr_sp q m D E) (tr_sp q m r b) fi ne pa) : tr_LB m E b fi ne pa := by
  have hq := tr_SP_q S
  intro j hj
  obtain ⟨l1, l2, l3⟩ := L (q + j) (by omega)
  rw [tr_sp_mid hj] at l1 l2 l3
  refine ⟨by rw [l1, tr_SP_fc3 S hj, tr_nd_mid _ (fun k e => tr_fc_lt e)], fun h0 => ⟨by rw [l2, tr_SP_nx4 S h0 hj, tr_nd_mid _ (fun k e => tr_nx_lt e)], ?_⟩⟩
  obtain ⟨y, y1, y2, y3⟩ := tr_SP_pr3 S h0 hj
  rw [l3, y2, y3]
  show nI (tr_sp q m r b (q + y)) = nI (b y)
  rw [tr_sp_mid (by omega)]
end
/-! depths shifted alike: the same links -/
theorem tr_sc_shift {c : Nat} {D D' : Nat → Nat} {d d' : Nat} : ∀ f k, (∀ j, j < c → (d < D j ↔ d' < D' j)) → tr_sc c D d f k = tr_sc c D' d' f k
  | 0, _, _ => rfl
  | f + 1, k, h => by
    simp only [tr_sc]
    by_cases z : k < c ∧ d < D k
    · rw [if_pos z, if_pos ⟨z.1, (h k z.1).mp z.2⟩, tr_sc_shift f (k + 1) h]
    · rw [if_neg z, if_neg (fun y => z ⟨y.1, (h k y.1).mpr y.2⟩)]
theorem tr_ps_shift {D D' : Nat → Nat} {d d' : Nat} : ∀ n, (∀ j, j < n → (D j < d ↔ D' j < d')) → tr_ps D d n = tr_ps D' d' n
  | 0, _ => rfl
  | n + 1, h => by
    simp only [tr_ps]
    rw [tr_ps_shift n (fun j hj => h j (by omega))]
    by_cases z : D n < d
    · rw [if_pos z, if_pos ((h n (by omega)).mp z)]
    · rw [if_neg z, if_neg (fun y => z ((h n (by omega)).mpr y))]
theorem tr_LB_shift {m a b : Nat} {E E' g : Nat → Nat} {fi ne pa : Nat → Int32} (h : ∀ j, j < m → E j + a = E' j + b) (B : tr_LB m E g fi ne pa) : tr_LB m E' g fi ne pa := by
  intro j hj
  obtain ⟨l1, l2⟩ := B j hj
  have ebe : tr_be m E j = tr_be m E' j := tr_sc_shift _ _ (fun k hk => by have := h k hk; have := h j hj; omega)
  have efc : tr_fc m E j = tr_fc m E' j := by
    unfold tr_fc
    by_cases z : j + 1 < m
    · have := h (j + 1) z
      have := h j hj
      by_cases y : E j < E (j + 1)
      · rw [if_pos ⟨z, y⟩, if_pos ⟨z, by omega⟩]
      · rw [if_neg (by omega), if_neg (by omega)]
    · rw [if_neg (by omega), if_neg (by omega)]
  have enx : tr_nx m E j = tr_nx m E' j := by
    unfold tr_nx
    rw [← ebe]
    by_cases z : tr_be m E j < m
    · have := h _ z
      have := h j hj
      by_cases y : E (tr_be m E j) = E j
      · rw [if_pos ⟨z, y⟩, if_pos ⟨z, by omega⟩]
      · rw [if_neg (by omega), if_neg (by omega)]
    · rw [if_neg (by omega), if_neg (by omega)]
  have epr : tr_pr E j = tr_pr E' j := tr_ps_shift _ (fun k hk => by have := h k (by omega); have := h j hj; omega)
  rw [← efc, ← enx, ← epr]
  exact ⟨l1, l2⟩
end
section
/-! ===== the tree in both states; questions ===== -/
def tr_TW (c : Nat) (r D nm : Nat → Nat) : Prop := c ≤ 24 ∧ (∀ i, i < c → r i < 24) ∧ tr_inj c r ∧ tr_W c D ∧ (∀ i, i < c → nm i < 6)
def xx_t (used root : Int32) (names values parent first next : Nat → Int32) (c : Nat) (r D nm : Nat → Nat) (va : Nat → Int32) : Prop :=
  used = nI c ∧ root = (if c = 0 then -1 else nI (r 0)) ∧ (∀ i, i < c → names (r i) = nI (nm i) ∧ values (r i) = va i) ∧
  tr_LK c D r first next parent ∧ (∀ n, n < 24 → (∀ i, i < c → r i ≠ n) → names n = -1)
def xx_T (u : SX) (c : Nat) (r D nm : Nat → Nat) (va : Nat → Int32) : Prop := xx_t (gx_used u) (gx_root u) (gx_names u) (gx_values u) (gx_parent u) (gx_first u) (gx_next u) c r D nm va
def yy_t (count : Int32) (row depth name value : Nat → Int32) (c : Nat) (r D nm : Nat → Nat) (va : Nat → Int32) : Prop :=
  count = nI c ∧ ∀ i, i < c → row i = nI (r i) ∧ depth (r i) = nI (D i) ∧ name (r i) = nI (nm i) ∧ value (r i) = va i
def yy_T (v : SY) (c : Nat) (r D nm : Nat → Nat) (va : Nat → Int32) : Prop := yy_t (gy_count v) (gy_row v) (gy_depth v) (gy_name v) (gy_value v) c r D nm va
section
variable {c : Nat} {r D nm : Nat → Nat} {va : Nat → Int32} {u : SX} {v : SY}
theorem yy_row (W : tr_TW c r D nm) (T : yy_T v c r D nm va) {i : Nat} (h : i < c) : gy_row v (nI i).toNatClampNeg = nI (r i) := by
  have := W.1
  rw [nI_clamp (by omega)]; exact (T.2 i h).1
theorem yy_dep (W : tr_TW c r D nm) (T : yy_T v c r D nm va) {i : Nat} (h : i < c) : gy_depth v (gy_row v (nI i).toNatClampNeg).toNatClampNeg = nI (D i) := by
  have := W.2.1 i h
  rw [yy_row W T h, nI_clamp (by omega)]; exact (T.2 i h).2.1
theorem yy_dep' (W : tr_TW c r D nm) (T : yy_T v c r D nm va) {i : Nat} (h : i < c) : gy_depth v (nI (r i)).toNatClampNeg = nI (D i) := by
  have := W.2.1 i h
  rw [nI_clamp (by omega)]; exact (T.2 i h).2.1
theorem tr_TWD (W : tr_TW c r D nm) {i : Nat} (h : i < c) : D i < 24 := by have := W.1; have := tr_W_le W.2.2.2.1 i h; omega
theorem tx_isNode1 (W : tr_TW c r D nm) (T : xx_T u c r D nm va) {post : Int32 → Prop} {i : Nat} (hi : i < c) (hp : post 1) : wpX_isNode post u (nI (r i)) := by
  have h1 := W.2.1 i hi
  have h2 := W.2.2.2.2 i hi
  have e : gx_names u (nI (r i)).toNatClampNeg = nI (nm i) := by rw [nI_clamp (by omega)]; exact (T.2.2.1 i hi).1
  exact pk_lt (r i) 0 (fun z => by omega) (fun _ => pk_le 24 (r i) (fun z => by omega) (fun _ => ⟨pk_in (r i) 24 h1, pk_lt (nm i) 0 (fun z => by omega) (fun _ => hp) e⟩))
theorem tx_isNode0 (W : tr_TW c r D nm) (T : xx_T u c r D nm va) {post : Int32 → Prop} {x : Int32} (hx : ∀ i, i < c → x ≠ nI (r i)) (hp : post 0) : wpX_isNode post u x := by
  rcases pk_ix x (n := 24) (by omega) with h | h | ⟨j, hj, rfl⟩
  · exact br_t h hp
  · have h0 : ¬ x < 0 := fun z => by
      have a : (nI 24 : Int32) < 0 := Int32.lt_of_le_of_lt h z
      exact absurd a (by decide)
    exact br_f h0 (br_t h hp)
  · have e : gx_names u (nI j).toNatClampNeg = -1 := by
      rw [nI_clamp (by omega)]
      exact T.2.2.2.2 j hj (fun i hi z => hx i hi (by rw [z]))
    exact pk_lt j 0 (fun z => by omega) (fun _ => pk_le 24 j (fun z => by omega) (fun _ => ⟨pk_in j 24 hj, br_t (by
      have : gx_names u (nI j).toNatClampNeg < 0 := by rw [e]; decide
      exact this) hp⟩))
theorem ty_where_loop (W : tr_TW c r D nm) (T : yy_T v c r D nm va) {post : Int32 → Prop} {x : Int32} (h1 : ∀ i, i < c → x = nI (r i) → post (nI i)) (h0 : (∀ i, i < c → x ≠ nI (r i)) → post (-1)) : ∀ d j, j + d = c → (∀ i, i < j → x ≠ nI (r i)) → yu_ (wY_where_2 post x) v (d + 1) (nI j) := by
  have hc := W.1
  intro d
  induction d with
  | zero =>
    intro j hj hn
    exact pk_le c j (fun _ => h0 (fun i hi => hn i (by omega))) (fun z => by omega) T.1
  | succ d ih =>
    intro j hj hn
    refine pk_le c j (fun z => by omega) (fun _ => ⟨pk_in j 24 (by omega), ?_⟩) T.1
    have e := yy_row W T (i := j) (by omega)
    by_cases z : x = nI (r j)
    · exact br_t (e.trans z.symm) (h1 j (by omega) z)
    · refine br_f (fun w => z ?_) (nm_r (nI_1 j) (ih (j + 1) (by omega) (fun i hi => ?_)))
      · have w : gy_row v (nI j).toNatClampNeg = x := w
        rw [← w]; exact e
      · by_cases k : i = j
        · rw [k]; exact z
        · exact hn i (by omega)
theorem ty_where1 (W : tr_TW c r D nm) (T : yy_T v c r D nm va) {post : Int32 → Prop} {i : Nat} (hi : i < c) (hp : post (nI i)) : wpY_where post v (nI (r i)) := by
  have h := ty_where_loop W T (post := post) (x := nI (r i)) (fun j hj e => by
    have a := W.2.1 i hi
    have b := W.2.1 j hj
    have e2 := (nI_eq (by omega) (by omega)).mp e
    rw [← W.2.2.1 i j hi hj e2]; exact hp) (fun z => absurd rfl (z i hi)) c 0 (by omega) (fun i hi => by omega)
  rw [nI_0] at h
  exact ⟨_, h⟩
theorem ty_where0 (W : tr_TW c r D nm) (T : yy_T v c r D nm va) {post : Int32 → Prop} {x : Int32} (hx : ∀ i, i < c → x ≠ nI (r i)) (hp : post (-1)) : wpY_where post v x := by
  have h := ty_where_loop W T (post := post) (x := x) (fun j hj e => absurd e (hx j hj)) (fun z => hp) c 0 (by omega) (fun i hi => by omega)
  rw [nI_0] at h
  exact ⟨_, h⟩
theorem ty_behind_loop (W : tr_TW c r D nm) (T : yy_T v c r D nm va) {post : Int32 → Prop} {i : Nat} (hi : i < c) (hp : post (nI (tr_be c D i))) : ∀ d k, k + d = tr_be c D i → i < k → yu_ (wY_behind_4 post (nI i)) v (d + 1) (nI k) := by
  have hc := W.1
  obtain ⟨b1, b2, b3, b4⟩ := tr_be_spec (D := D) hi
  have hri := W.2.1 i hi
  have hDi := tr_TWD W hi
  intro d
  induction d with
  | zero =>
    intro k hk hik
    have e : k = tr_be c D i := by omega
    rw [← e] at hp b4
    refine pk_le c k (fun _ => hp) (fun z => ⟨pk_in k 24 (by omega), ?_⟩) T.1
    have hrk := W.2.1 k z
    have hDk := tr_TWD W z
    exact ⟨pk_in (r k) 24 hrk (yy_row W T z), pk_in i 24 (by omega), pk_in (r i) 24 hri (yy_row W T hi), pk_le (D k) (D i) (fun _ => hp) (fun y => by have := b4 z; omega) (yy_dep W T z) (yy_dep W T hi)⟩
  | succ d ih =>
    intro k hk hik
    refine pk_le c k (fun z => by omega) (fun z => ⟨pk_in k 24 (by omega), ?_⟩) T.1
    have hrk := W.2.1 k z
    have hDk := tr_TWD W z
    exact ⟨pk_in (r k) 24 hrk (yy_row W T z), pk_in i 24 (by omega), pk_in (r i) 24 hri (yy_row W T hi), pk_le (D k) (D i) (fun y => by have := b3 k hik (by omega); omega) (fun y => nm_r (nI_1 k) (ih (k + 1) (by omega) (by omega))) (yy_dep W T z) (yy_dep W T hi)⟩
theorem ty_behind (W : tr_TW c r D nm) (T : yy_T v c r D nm va) {post : Int32 → Prop} {i : Nat} (hi : i < c) (hp : post (nI (tr_be c D i))) : wpY_behind post v (nI i) := by
  have b := (tr_be_spec (D := D) hi).1
  exact nm_r (nI_1 i) ⟨_, ty_behind_loop W T hi hp (tr_be c D i - (i + 1)) (i + 1) (by omega) (by omega)⟩
theorem ty_isBelow (W : tr_TW c r D nm) (T : yy_T v c r D nm va) {post : Int32 → Prop} {i k : Nat} (hi : i < c) (hk : k < c) (h1 : i < k ∧ k < tr_be c D i → post 1) (h0 : ¬ (i < k ∧ k < tr_be c D i) → post 0) : wpY_isBelow post v (nI (r k)) (nI (r i)) := by
  have hc := W.1
  have b := (tr_be_spec (D := D) hi).2.1
  refine ty_where1 W T hi (ty_where1 W T hk (pk_le k i (fun z => h0 (by omega)) (fun z => ?_)))
  exact ty_behind W T hi (pk_le (tr_be c D i) k (fun y => h0 (by omega)) (fun y => h1 ⟨z, y⟩))
theorem ty_parent_loop (W : tr_TW c r D nm) (T : yy_T v c r D nm va) {post : Int32 → Prop} {i : Nat} (hi : i < c) : ∀ t, t ≤ i + 1 → post (tr_nd r (tr_ps D (D i) t)) → yu_ (wY_parentOf_6 post (nI (r i))) v (t + 1) (nI t + (-1)) := by
  have hc := W.1
  have hri := W.2.1 i hi
  have hDi := tr_TWD W hi
  intro t
  induction t with
  | zero =>
    intro _ hp
    exact br_t (show (nI 0 + (-1) : Int32) < 0 by decide) (br_f (show ¬ (0 : Int32) ≤ nI 0 + (-1) by decide) hp)
  | succ t ih =>
    intro ht hp
    rw [pk_m1]
    have hrt := W.2.1 t (by omega)
    have hDt := tr_TWD W (i := t) (by omega)
    refine pk_lt t 0 (fun z => by omega) (fun _ => ⟨pk_in t 24 (by omega), pk_in (r t) 24 hrt (yy_row W T (by omega)), pk_in (r i) 24 hri, ?_⟩)
    refine pk_lt (D t) (D i) (fun z => ?_) (fun z => ?_) (yy_dep W T (by omega)) (yy_dep' W T hi)
    · rw [tr_ps, if_pos z] at hp
      refine br_t (nI_pos' (by omega)) ⟨pk_in t 24 (by omega), ?_⟩
      have hp : post (nI (r t)) := hp
      rw [← yy_row W T (i := t) (by omega)] at hp
      exact hp
    · rw [tr_ps, if_neg (by omega)] at hp
      exact nm_e (ih (by omega) hp)
theorem ty_parentOf (W : tr_TW c r D nm) (T : yy_T v c r D nm va) {post : Int32 → Prop} {i : Nat} (hi : i < c) (hp : post (tr_nd r (tr_pr D i))) : wpY_parentOf post v (nI (r i)) := by
  refine ty_where1 W T hi ⟨i + 2, ?_⟩
  have h := ty_parent_loop W T (post := post) hi (i + 1) (by omega) (by rw [tr_ps, if_neg (by omega)]; exact hp)
  rw [pk_m1] at h
  exact h
theorem ty_place_loop (W : tr_TW c r D nm) (T : yy_T v c r D nm va) {post : Int32 → Prop} {p kk : Nat} (hp : p < c) (hk : kk < 2 ^ 31) : ∀ K x h, h ≤ kk → tr_Cb c D p x → tr_Hn c D p K x → (kk - h ≤ K → post (nI (tr_it c D (kk - h) x))) → (K < kk - h → post (-1)) → yu_ (wY_place_14 post (nI kk) (nI (tr_be c D p))) v (K + 1) (nI x) (nI h) := by
  have hc := W.1
  have hb := (tr_be_spec (D := D) hp).2.1
  intro K
  induction K with
  | zero =>
    intro x h hh hx hK h1 h2
    have hK : x = tr_be c D p := hK
    refine pk_le kk h (fun z => ?_) (fun z => br_t (by rw [hK]) (h2 (by omega)))
    have := h1 (by omega)
    rw [show kk - h = 0 by omega] at this
    exact this
  | succ K ih =>
    intro x h hh hx hK h1 h2
    have hl := hK.1
    refine pk_le kk h (fun z => ?_) (fun z => pk_eq x (tr_be c D p) (fun z => by omega) (fun _ => ?_))
    · have := h1 (by omega)
      rw [show kk - h = 0 by omega] at this
      exact this
    · refine ty_behind W T (by omega) (nm_r (nI_1 h) (ih _ (h + 1) (by omega) (tr_Cb_s hp hx hl).1 hK.2 (fun y => ?_) (fun y => h2 (by omega))))
      have := h1 (by omega)
      rw [show kk - h = kk - (h + 1) + 1 by omega] at this
      exact this
/-- child kk's place (or the place behind the last child), -1 beyond -/
theorem ty_place (W : tr_TW c r D nm) (T : yy_T v c r D nm va) {post : Int32 → Prop} {p kk K : Nat} (hp : p < c) (hk : kk < 2 ^ 31) (hK : tr_Hn c D p K (p + 1)) (h1 : kk ≤ K → post (nI (tr_it c D kk (p + 1)))) (h2 : K < kk → post (-1)) : wpY_place post v (nI p) (nI kk) := by
  have h := ty_place_loop W T (post := post) hp hk K (p + 1) 0 (by omega) (tr_Cb_0 W.2.2.2.1 hp) hK h1 h2
  rw [nI_0] at h
  exact nm_r (nI_1 p) (ty_behind W T hp ⟨_, h⟩)
theorem tr_fc_w (W : tr_W c D) {p : Nat} (hp : p < c) : tr_nd r (tr_fc c D p) = tr_w c D r p (p + 1) := by
  obtain ⟨d1, d2, d3, d4⟩ := tr_be_spec (D := D) hp
  unfold tr_fc tr_w
  by_cases z : p + 1 < tr_be c D p
  · rw [if_pos z, if_pos ⟨by omega, d3 (p + 1) (by omega) z⟩]; rfl
  · rw [if_neg z, if_neg]
    · rfl
    · rintro ⟨y1, y2⟩
      have e : tr_be c D p = p + 1 := by omega
      rw [e] at d4; have := d4 y1; omega
theorem tr_nx_w {p x : Nat} (hp : p < c) (hx : tr_Cb c D p x) (hl : x < tr_be c D p) : tr_nd r (tr_nx c D x) = tr_w c D r p (tr_be c D x) := by
  obtain ⟨d1, d2, d3, d4⟩ := tr_be_spec (D := D) hp
  obtain ⟨a, b⟩ := tr_Cb_s hp hx hl
  have e := hx.2.2 hl
  unfold tr_nx tr_w
  by_cases z : tr_be c D x < tr_be c D p
  · rw [if_pos z, if_pos ⟨by omega, by rw [a.2.2 z]; omega⟩]; rfl
  · rw [if_neg z, if_neg]
    · rfl
    · rintro ⟨y1, y2⟩
      have e : tr_be c D x = tr_be c D p := by have := a.2.1; omega
      rw [e] at y1 y2; have := d4 y1; omega
theorem tr_w_in {p x : Nat} (h : x < tr_be c D p) : tr_w c D r p x = nI (r x) := if_pos h
theorem tr_w_out {p x : Nat} (h : ¬ x < tr_be c D p) : tr_w c D r p x = -1 := if_neg h
theorem xx_first (W : tr_TW c r D nm) (T : xx_T u c r D nm va) {p : Nat} (hp : p < c) : gx_first u (nI (r p)).toNatClampNeg = tr_w c D r p (p + 1) := by
  have := W.2.1 p hp
  rw [nI_clamp (by omega), (T.2.2.2.1 p hp).1, tr_fc_w W.2.2.2.1 hp]
theorem xx_next (W : tr_TW c r D nm) (T : xx_T u c r D nm va) {p x : Nat} (hp : p < c) (hx : tr_Cb c D p x) (hl : x < tr_be c D p) : gx_next u (nI (r x)).toNatClampNeg = tr_w c D r p (tr_be c D x) := by
  have hb := (tr_be_spec (D := D) hp).2.1
  have := W.2.1 x (by omega)
  rw [nI_clamp (by omega), (T.2.2.2.1 x (by omega)).2.1, tr_nx_w hp hx hl]
theorem tx_many_loop (W : tr_TW c r D nm) (T : xx_T u c r D nm va) {post : Int32 → Prop} {p : Nat} (hp : p < c) : ∀ K x h, tr_Cb c D p x → tr_Hn c D p K x → post (nI (h + K)) → xu_ (wX_many_9 post) u (K + 1) (nI h) (tr_w c D r p x) := by
  have hc := W.1
  have hb := (tr_be_spec (D := D) hp).2.1
  intro K
  induction K with
  | zero =>
    intro x h hx hK hq
    have hK : x = tr_be c D p := hK
    rw [tr_w_out (by omega)]
    exact br_t (show (-1 : Int32) < 0 by decide) hq
  | succ K ih =>
    intro x h hx hK hq
    have hl := hK.1
    have hrx := W.2.1 x (by omega)
    have en := xx_next W T hp hx hl
    rw [tr_w_in hl]
    exact pk_lt (r x) 0 (fun z => by omega) (fun _ => nm_r (nI_1 h) ⟨pk_in (r x) 24 hrx, nm_r en (ih _ (h + 1) (tr_Cb_s hp hx hl).1 hK.2 (by rw [show h + 1 + K = h + (K + 1) by omega]; exact hq))⟩)
theorem tx_many (W : tr_TW c r D nm) (T : xx_T u c r D nm va) {post : Int32 → Prop} {p K : Nat} (hp : p < c) (hK : tr_Hn c D p K (p + 1)) (hq : post (nI K)) : wpX_many post u (nI (r p)) := by
  have h := tx_many_loop W T (post := post) hp K (p + 1) 0 (tr_Cb_0 W.2.2.2.1 hp) hK (by rw [Nat.zero_add]; exact hq)
  rw [nI_0] at h
  exact ⟨pk_in (r p) 24 (W.2.1 p hp) (hN := by omega), nm_r (xx_first W T hp) ⟨_, h⟩⟩
theorem tx_child_loop (W : tr_TW c r D nm) (T : xx_T u c r D nm va) {post : Int32 → Prop} {p kk : Nat} (hp : p < c) (hk : kk < 2 ^ 31) : ∀ K x h, h ≤ kk → tr_Cb c D p x → tr_Hn c D p K x → (kk - h ≤ K → post (tr_w c D r p (tr_it c D (kk - h) x))) → (K < kk - h → post (-1)) → xu_ (wX_child_24 post (nI kk)) u (K + 1) (tr_w c D r p x) (nI h) := by
  have hc := W.1
  have hb := (tr_be_spec (D := D) hp).2.1
  intro K
  induction K with
  | zero =>
    intro x h hh hx hK h1 h2
    have hK : x = tr_be c D p := hK
    have e : tr_w c D r p x = -1 := tr_w_out (by omega)
    refine pk_le kk h (fun z => ?_) (fun z => br_t (by rw [e]; decide) (by rw [e]; exact h2 (by omega)))
    have := h1 (by omega)
    rw [show kk - h = 0 by omega] at this
    exact this
  | succ K ih =>
    intro x h hh hx hK h1 h2
    have hl := hK.1
    have hrx := W.2.1 x (by omega)
    have en := xx_next W T hp hx hl
    refine pk_le kk h (fun z => ?_) (fun z => ?_)
    · have := h1 (by omega)
      rw [show kk - h = 0 by omega] at this
      exact this
    · rw [tr_w_in hl]
      refine pk_lt (r x) 0 (fun z => by omega) (fun _ => ⟨pk_in (r x) 24 hrx, nm_r en (nm_r (nI_1 h) (ih _ (h + 1) (by omega) (tr_Cb_s hp hx hl).1 hK.2 (fun y => ?_) (fun y => h2 (by omega))))⟩)
      have := h1 (by omega)
      rw [show kk - h = kk - (h + 1) + 1 by omega] at this
      exact this
end
end
section
/-! ===== changed, link, unlink ===== -/
theorem up_cl {f : Nat → Int32} {j : Nat} {x y : Int32} (hj : j < 2 ^ 31) (h : x = y) : upd f (nI j).toNatClampNeg x = upd f j y := by rw [nI_clamp hj, h]
theorem up_n {f : Nat → Int32} {z : Int32} {j : Nat} {x y : Int32} (hz : z = nI j) (hj : j < 2 ^ 31) (h : x = y) : upd f z.toNatClampNeg x = upd f j y := by rw [hz, nI_clamp hj, h]
theorem cl_n {z : Int32} {j : Nat} (hz : z = nI j) (hj : j < 2 ^ 31) : z.toNatClampNeg = j := by rw [hz, nI_clamp hj]
theorem tx_changed_loop {post : SX → Prop} {f_root f_used f_counted f_sorted f_put : Int32} {a_names a_values a_parent a_first a_next a_place a_nodeAt a_end a_up a_children a_above a_named a_valueAt a_kinds a_vals a_types a_behind a_local a_length a_open a_table a_results a_known a_along a_stack a_match a_priority a_out a_on a_matched a_chosen a_waiting a_depths a_outputs : Nat → Int32} (hp : ∀ kn, (∀ s, s < 8 → kn s = 0) → post (f_root, f_used, f_counted, f_sorted, f_put, a_names, a_values, a_parent, a_first, a_next, a_place, a_nodeAt, a_end, a_up, a_children, a_above, a_named, a_valueAt, a_kinds, a_vals, a_types, a_behind, a_local, a_length, a_open, a_table, a_results, kn, a_along, a_stack, a_match, a_priority, a_out, a_on, a_matched, a_chosen, a_waiting, a_depths, a_outputs)) : ∀ d j kn, j + d = 8 → (∀ s, s < j → kn s = 0) → wX_changed_12 post f_root f_used f_counted f_sorted f_put (d + 1) (nI j) a_names a_values a_parent a_first a_next a_place a_nodeAt a_end a_up a_children a_above a_named a_valueAt a_kinds a_vals a_types a_behind a_local a_length a_open a_table a_results kn a_along a_stack a_match a_priority a_out a_on a_matched a_chosen a_waiting a_depths a_outputs := by
  intro d
  induction d with
  | zero => intro j kn hj hk; exact pk_le 8 j (fun _ => hp kn (fun s hs => hk s (by omega))) (fun z => by omega)
  | succ d ih =>
    intro j kn hj hk
    refine pk_le 8 j (fun z => by omega) (fun z => ⟨pk_in j 8 z, nm_r (up_cl (by omega) bs_bool0) (nm_r (nI_1 j) (ih (j + 1) (upd kn j 0) (by omega) (fun s hs => ?_)))⟩)
    by_cases e : s = j
    · rw [e, pk_us]
    · rw [pk_un e]; exact hk s (by omega)
theorem tx_changed {post : SX → Prop} {f_root f_used f_counted f_sorted f_put : Int32} {a_names a_values a_parent a_first a_next a_place a_nodeAt a_end a_up a_children a_above a_named a_valueAt a_kinds a_vals a_types a_behind a_local a_length a_open a_table a_results a_known a_along a_stack a_match a_priority a_out a_on a_matched a_chosen a_waiting a_depths a_outputs : Nat → Int32} (hp : ∀ kn, (∀ s, s < 8 → kn s = 0) → post (f_root, f_used, 0, 0, f_put, a_names, a_values, a_parent, a_first, a_next, a_place, a_nodeAt, a_end, a_up, a_children, a_above, a_named, a_valueAt, a_kinds, a_vals, a_types, a_behind, a_local, a_length, a_open, a_table, a_results, kn, a_along, a_stack, a_match, a_priority, a_out, a_on, a_matched, a_chosen, a_waiting, a_depths, a_outputs)) : wpX_changed post (f_root, f_used, f_counted, f_sorted, f_put, a_names, a_values, a_parent, a_first, a_next, a_place, a_nodeAt, a_end, a_up, a_children, a_above, a_named, a_valueAt, a_kinds, a_vals, a_types, a_behind, a_local, a_length, a_open, a_table, a_results, a_known, a_along, a_stack, a_match, a_priority, a_out, a_on, a_matched, a_chosen, a_waiting, a_depths, a_outputs) :=
  ⟨_, nI_0 ▸ tx_changed_loop (a_known := a_known) (post := post) hp 8 0 a_known (by omega) (fun s hs => by omega)⟩
theorem ty_changed_loop {post : SY → Prop} {g_count g_top g_listed g_outputs : Int32} {b_row b_depth b_name b_value b_moved b_kind b_with b_length b_sets b_fresh b_type b_number b_set b_list b_there b_match b_priority b_out b_on b_todo b_within b_output : Nat → Int32} (hp : ∀ kn, (∀ s, s < 8 → kn s = 0) → post (g_count, g_top, g_listed, g_outputs, b_row, b_depth, b_name, b_value, b_moved, b_kind, b_with, b_length, b_sets, kn, b_type, b_number, b_set, b_list, b_there, b_match, b_priority, b_out, b_on, b_todo, b_within, b_output)) : ∀ d j kn, j + d = 8 → (∀ s, s < j → kn s = 0) → wY_changed_2 post g_count g_top g_listed g_outputs (d + 1) (nI j) b_row b_depth b_name b_value b_moved b_kind b_with b_length b_sets kn b_type b_number b_set b_list b_there b_match b_priority b_out b_on b_todo b_within b_output := by
  intro d
  induction d with
  | zero => intro j kn hj hk; exact pk_le 8 j (fun _ => hp kn (fun s hs => hk s (by omega))) (fun z => by omega)
  | succ d ih =>
    intro j kn hj hk
    refine pk_le 8 j (fun z => by omega) (fun z => ⟨pk_in j 8 z, nm_r (up_cl (by omega) bs_bool0) (nm_r (nI_1 j) (ih (j + 1) (upd kn j 0) (by omega) (fun s hs => ?_)))⟩)
    by_cases e : s = j
    · rw [e, pk_us]
    · rw [pk_un e]; exact hk s (by omega)
theorem ty_changed {post : SY → Prop} {g_count g_top g_listed g_outputs : Int32} {b_row b_depth b_name b_value b_moved b_kind b_with b_length b_sets b_fresh b_type b_number b_set b_list b_there b_match b_priority b_out b_on b_todo b_within b_output : Nat → Int32} (hp : ∀ kn, (∀ s, s < 8 → kn s = 0) → post (g_count, g_top, g_listed, g_outputs, b_row, b_depth, b_name, b_value, b_moved, b_kind, b_with, b_length, b_sets, kn, b_type, b_number, b_set, b_list, b_there, b_match, b_priority, b_out, b_on, b_todo, b_within, b_output)) : wpY_changed post (g_count, g_top, g_listed, g_outputs, b_row, b_depth, b_name, b_value, b_moved, b_kind, b_with, b_length, b_sets, b_fresh, b_type, b_number, b_set, b_list, b_there, b_match, b_priority, b_out, b_on, b_todo, b_within, b_output) :=
  ⟨_, nI_0 ▸ ty_changed_loop (b_fresh := b_fresh) (post := post) hp 8 0 b_fresh (by omega) (fun s hs => by omega)⟩
section
variable {c : Nat} {r D nm : Nat → Nat} {va : Nat → Int32} {f_root f_used f_counted f_sorted f_put : Int32} {a_names a_values a_parent a_first a_next a_place a_nodeAt a_end a_up a_children a_above a_named a_valueAt a_kinds a_vals a_types a_behind a_local a_length a_open a_table a_results a_known a_along a_stack a_match a_priority a_out a_on a_matched a_chosen a_waiting a_depths a_outputs : Nat → Int32}
theorem tr_w_nar (W : tr_TW c r D nm) {p x : Nat} (hp : p < c) : vp_nar .byte (tr_w c D r p x) = tr_w c D r p x ∧ vp_nar .byte ((tr_w c D r p x).toInt8.toInt32) = tr_w c D r p x := by
  have hb := (tr_be_spec (D := D) hp).2.1
  by_cases z : x < tr_be c D p
  · rw [tr_w_in z]
    have := W.2.1 x (by omega)
    exact ⟨bs_nar_byte (by omega), bs_nb (by omega)⟩
  · rw [tr_w_out z]; exact ⟨bs_nb1, bs_nb2⟩
theorem tx_link_loop (W : tr_TW c r D nm) {post : SX → Prop} {p kk nb : Nat} (hp : p < c) (hk : kk < 2 ^ 31) (hn : nb < 24)
    (hN : ∀ x, tr_Cb c D p x → x < tr_be c D p → a_next (nI (r x)).toNatClampNeg = tr_w c D r p (tr_be c D x))
    {q : Nat} (hA : ∀ y, y < c → tr_Cb c D p y → y < tr_be c D p → tr_be c D y = q → post (f_root, f_used, f_counted, f_sorted, f_put, a_names, a_values, a_parent, a_first, upd (upd a_next nb (tr_w c D r p q)) (r y) (nI nb), a_place, a_nodeAt, a_end, a_up, a_children, a_above, a_named, a_valueAt, a_kinds, a_vals, a_types, a_behind, a_local, a_length, a_open, a_table, a_results, a_known, a_along, a_stack, a_match, a_priority, a_out, a_on, a_matched, a_chosen, a_waiting, a_depths, a_outputs)) :
    ∀ t K x h y, h + t = kk → tr_Cb c D p x → tr_Hn c D p K x → t ≤ K → tr_it c D t x = q → y < c → tr_Cb c D p y → y < tr_be c D p → tr_be c D y = x →
      wX_link_22 post (nI nb) (nI (r p)) (nI kk) f_root f_used f_counted f_sorted f_put a_names a_values a_parent a_first a_next a_place a_nodeAt a_end a_up a_children a_above a_named a_valueAt a_kinds a_vals a_types a_behind a_local a_length a_open a_table a_results a_known a_along a_stack a_match a_priority a_out a_on a_matched a_chosen a_waiting a_depths a_outputs (t + 1) (nI (r y)) (tr_w c D r p x) (nI h) := by
  have hc := W.1
  have hb := (tr_be_spec (D := D) hp).2.1
  have hr := W.2.1
  intro t
  induction t with
  | zero =>
    intro K x h y hh hx hK hl hq hy hy1 hy2 hy3
    have := hr y hy
    have hq : x = q := hq
    subst hq
    exact pk_le kk h (fun _ => ⟨pk_in nb 24 hn, nm_r (up_cl (by omega) (tr_w_nar W hp).2) (br_t (nI_pos' (by omega)) ⟨pk_in (r y) 24 (hr y hy), nm_r (up_cl (by omega) (bs_nb (by omega))) (hA y hy hy1 hy2 hy3)⟩)⟩) (fun z => by omega)
  | succ t ih =>
    intro K x h y hh hx hK hl hq hy hy1 hy2 hy3
    obtain ⟨K, rfl⟩ : ∃ j, K = j + 1 := ⟨K - 1, by omega⟩
    have hxl := hK.1
    rw [tr_w_in hxl]
    exact pk_le kk h (fun z => by omega) (fun z => ⟨pk_in (r x) 24 (hr x (by omega)), nm_r (hN x hx hxl) (nm_r (nI_1 h) (ih K _ (h + 1) x (by omega) (tr_Cb_s hp hx hxl).1 hK.2 (by omega) hq (by omega) hx hxl rfl))⟩)
theorem tx_link (W : tr_TW c r D nm) {post : SX → Prop} {p kk nb K : Nat} (hp : p < c) (hn : nb < 24) (hK : tr_Hn c D p K (p + 1)) (hkk : kk ≤ K)
    (hF : a_first (r p) = tr_w c D r p (p + 1))
    (hN : ∀ x, tr_Cb c D p x → x < tr_be c D p → a_next (r x) = tr_w c D r p (tr_be c D x))
    (hA : tr_it c D kk (p + 1) = p + 1 → post (f_root, f_used, f_counted, f_sorted, f_put, a_names, a_values, upd a_parent nb (nI (r p)), upd a_first (r p) (nI nb), upd a_next nb (tr_w c D r p (p + 1)), a_place, a_nodeAt, a_end, a_up, a_children, a_above, a_named, a_valueAt, a_kinds, a_vals, a_types, a_behind, a_local, a_length, a_open, a_table, a_results, a_known, a_along, a_stack, a_match, a_priority, a_out, a_on, a_matched, a_chosen, a_waiting, a_depths, a_outputs))
    (hB : ∀ y, y < c → tr_pv c D p (tr_it c D kk (p + 1)) y → post (f_root, f_used, f_counted, f_sorted, f_put, a_names, a_values, upd a_parent nb (nI (r p)), a_first, upd (upd a_next nb (tr_w c D r p (tr_it c D kk (p + 1)))) (r y) (nI nb), a_place, a_nodeAt, a_end, a_up, a_children, a_above, a_named, a_valueAt, a_kinds, a_vals, a_types, a_behind, a_local, a_length, a_open, a_table, a_results, a_known, a_along, a_stack, a_match, a_priority, a_out, a_on, a_matched, a_chosen, a_waiting, a_depths, a_outputs)) :
    wpX_link post (f_root, f_used, f_counted, f_sorted, f_put, a_names, a_values, a_parent, a_first, a_next, a_place, a_nodeAt, a_end, a_up, a_children, a_above, a_named, a_valueAt, a_kinds, a_vals, a_types, a_behind, a_local, a_length, a_open, a_table, a_results, a_known, a_along, a_stack, a_match, a_priority, a_out, a_on, a_matched, a_chosen, a_waiting, a_depths, a_outputs) (nI nb) (nI (r p)) (nI kk) := by
  have hc := W.1
  have hb := (tr_be_spec (D := D) hp).2.1
  have hr := W.2.1
  have hrp := hr p hp
  have hC0 := tr_Cb_0 W.2.2.2.1 hp
  have hKl := tr_Hn_le hp K (p + 1) hC0 hK
  have hN' : ∀ x, tr_Cb c D p x → x < tr_be c D p → a_next (nI (r x)).toNatClampNeg = tr_w c D r p (tr_be c D x) := by
    intro x h1 h2
    have := hr x (by omega)
    rw [nI_clamp (by omega)]
    exact hN x h1 h2
  have hF' : a_first (nI (r p)).toNatClampNeg = tr_w c D r p (p + 1) := by rw [nI_clamp (by omega)]; exact hF
  refine ⟨pk_in nb 24 hn, nm_r (up_cl (by omega) (bs_nb (by omega))) ⟨pk_in (r p) 24 hrp, nm_r hF' ?_⟩⟩
  rcases Nat.eq_zero_or_pos kk with z | z
  · subst z
    exact ⟨1, pk_le 0 0 (fun _ => ⟨pk_in nb 24 hn, nm_r (up_cl (by omega) (tr_w_nar W hp).2) (br_f (by decide) ⟨pk_in (r p) 24 hrp, nm_r (up_cl (by omega) (bs_nb (by omega))) (hA rfl)⟩)⟩) (fun z => by omega)⟩
  · obtain ⟨kk, rfl⟩ : ∃ j, kk = j + 1 := ⟨kk - 1, by omega⟩
    obtain ⟨K, rfl⟩ : ∃ j, K = j + 1 := ⟨K - 1, by omega⟩
    have hxl := hK.1
    refine ⟨kk + 2, ?_⟩
    rw [tr_w_in hxl]
    refine pk_le (kk + 1) 0 (fun z => by omega) (fun z => ⟨pk_in (r (p + 1)) 24 (hr (p + 1) (by omega)), nm_r (hN' (p + 1) hC0 hxl) ?_⟩)
    refine nm_r (nI_1 0) (tx_link_loop W (q := tr_it c D (kk + 1) (p + 1)) hp (by omega) hn hN' (fun y hy hy1 hy2 hy3 => ?_) kk K _ (0 + 1) (p + 1) (by omega) (tr_Cb_s hp hC0 hxl).1 hK.2 (by omega) rfl (by omega) hC0 hxl rfl)
    exact hB y hy ⟨hy1.1, hy1.2.2 hy2, hy3⟩
theorem tx_unlink_loop (W : tr_TW c r D nm) (L : tr_LK c D r a_first a_next a_parent) {post : SX → Prop} {p a : Nat} (hp : p < c) (ha : a < tr_be c D p) (haC : tr_Cb c D p a)
    (hB : ∀ y, y < c → tr_pv c D p a y → post (f_root, f_used, f_counted, f_sorted, f_put, a_names, a_values, a_parent, a_first, upd a_next (r y) (a_next (r a)), a_place, a_nodeAt, a_end, a_up, a_children, a_above, a_named, a_valueAt, a_kinds, a_vals, a_types, a_behind, a_local, a_length, a_open, a_table, a_results, a_known, a_along, a_stack, a_match, a_priority, a_out, a_on, a_matched, a_chosen, a_waiting, a_depths, a_outputs)) :
    ∀ d y, a - y ≤ d → y < a → tr_Cb c D p y → wX_unlink_37 post (nI (r a)) f_root f_used f_counted f_sorted f_put a_names a_values a_parent a_first a_next a_place a_nodeAt a_end a_up a_children a_above a_named a_valueAt a_kinds a_vals a_types a_behind a_local a_length a_open a_table a_results a_known a_along a_stack a_match a_priority a_out a_on a_matched a_chosen a_waiting a_depths a_outputs (d + 1) (nI (r y)) := by
  have hc := W.1
  have hb := (tr_be_spec (D := D) hp).2.1
  have hr := W.2.1
  have hN : ∀ x, tr_Cb c D p x → x < tr_be c D p → a_next (nI (r x)).toNatClampNeg = tr_w c D r p (tr_be c D x) := by
    intro x h1 h2
    have := hr x (by omega)
    rw [nI_clamp (by omega), (L x (by omega)).2.1, tr_nx_w hp h1 h2]
  intro d
  induction d with
  | zero => intro y h1 h2; omega
  | succ d ih =>
    intro y h1 h2 hy
    have hyl : y < tr_be c D p := by omega
    have hry := hr y (by omega)
    have hra := hr a (by omega)
    have en := hN y hy hyl
    obtain ⟨s1, s2⟩ := tr_Cb_s hp hy hyl
    have hle : tr_be c D y ≤ a := by
      rcases Nat.lt_or_ge a (tr_be c D y) with z | z
      · have := (tr_be_spec (c := c) (D := D) (i := y) (by omega)).2.2.1 a h2 z
        have := haC.2.2 ha
        have := hy.2.2 hyl
        omega
      · exact z
    rw [tr_w_in (by omega)] at en
    have hrb := hr (tr_be c D y) (by omega)
    refine ⟨pk_in (r y) 24 hry, pk_eq (r (tr_be c D y)) (r a) (fun z => ?_) (fun z => ?_) en⟩
    · have e := W.2.2.1 _ _ (by omega) (by omega) z
      have ew : vp_nar .byte (a_next (nI (r a)).toNatClampNeg) = a_next (r a) := by
        rw [hN a haC ha, (tr_w_nar W hp).1, ← hN a haC ha, nI_clamp (by omega)]
      exact ⟨pk_in (r a) 24 hra, pk_in (r y) 24 hry, nm_r (up_cl (by omega) ew) (hB y (by omega) ⟨hy.1, hy.2.2 hyl, e⟩)⟩
    · have ne : tr_be c D y ≠ a := fun w => z (by rw [w])
      exact ⟨pk_in (r y) 24 hry, nm_r en (ih _ (by omega) (by omega) s1)⟩
theorem tx_unlink (W : tr_TW c r D nm) (L : tr_LK c D r a_first a_next a_parent) {post : SX → Prop} {p a : Nat} (hpa : tr_Pa D a p) (hac : a < c)
    (hA : a = p + 1 → post (f_root, f_used, f_counted, f_sorted, f_put, a_names, a_values, a_parent, upd a_first (r p) (a_next (r a)), a_next, a_place, a_nodeAt, a_end, a_up, a_children, a_above, a_named, a_valueAt, a_kinds, a_vals, a_types, a_behind, a_local, a_length, a_open, a_table, a_results, a_known, a_along, a_stack, a_match, a_priority, a_out, a_on, a_matched, a_chosen, a_waiting, a_depths, a_outputs))
    (hB : ∀ y, y < c → tr_pv c D p a y → post (f_root, f_used, f_counted, f_sorted, f_put, a_names, a_values, a_parent, a_first, upd a_next (r y) (a_next (r a)), a_place, a_nodeAt, a_end, a_up, a_children, a_above, a_named, a_valueAt, a_kinds, a_vals, a_types, a_behind, a_local, a_length, a_open, a_table, a_results, a_known, a_along, a_stack, a_match, a_priority, a_out, a_on, a_matched, a_chosen, a_waiting, a_depths, a_outputs)) : wpX_unlink post (f_root, f_used, f_counted, f_sorted, f_put, a_names, a_values, a_parent, a_first, a_next, a_place, a_nodeAt, a_end, a_up, a_children, a_above, a_named, a_valueAt, a_kinds, a_vals, a_types, a_behind, a_local, a_length, a_open, a_table, a_results, a_known, a_along, a_stack, a_match, a_priority, a_out, a_on, a_matched, a_chosen, a_waiting, a_depths, a_outputs) (nI (r a)) := by
  have hc := W.1
  obtain ⟨p1, p2, p3⟩ := (tr_Pa_be W.2.2.2.1 hac).mp hpa
  have hp : p < c := by omega
  have hr := W.2.1
  have hra := hr a hac
  have hrp := hr p hp
  have haC : tr_Cb c D p a := ⟨p1, by omega, fun _ => p3⟩
  have epa : a_parent (nI (r a)).toNatClampNeg = nI (r p) := by
    rw [nI_clamp (by omega), (L a hac).2.2, tr_pr_of hpa]; rfl
  have hC0 := tr_Cb_0 W.2.2.2.1 hp
  have ef : a_first (nI (r p)).toNatClampNeg = tr_w c D r p (p + 1) := by rw [nI_clamp (by omega), (L p hp).1, tr_fc_w W.2.2.2.1 hp]
  rw [tr_w_in (by omega)] at ef
  have hr1 := hr (p + 1) (by omega)
  refine ⟨pk_in (r a) 24 hra, nm_r epa ⟨pk_in (r p) 24 hrp, pk_eq (r (p + 1)) (r a) (fun z => ?_) (fun z => ?_) ef⟩⟩
  · have e := W.2.2.1 _ _ (by omega) hac z
    have ew : vp_nar .byte (a_next (nI (r a)).toNatClampNeg) = a_next (r a) := by
      have en : a_next (nI (r a)).toNatClampNeg = tr_w c D r p (tr_be c D a) := by rw [nI_clamp (by omega), (L a hac).2.1, tr_nx_w hp haC p2]
      rw [en, (tr_w_nar W hp).1, ← en, nI_clamp (by omega)]
    exact ⟨pk_in (r a) 24 hra, pk_in (r p) 24 hrp, nm_r (up_cl (by omega) ew) (hA e.symm)⟩
  · have ne : p + 1 ≠ a := fun w => z (by rw [w])
    exact ⟨pk_in (r p) 24 hrp, nm_r ef ⟨_, tx_unlink_loop W L hp p2 haC hB (a - (p + 1)) (p + 1) (by omega) (by omega) hC0⟩⟩
end
end
section
/-! ===== functions by downward recursion; expressions ===== -/
def dn_f {α : Type} (n : Nat) (d : Nat → α) (F : (Nat → α) → Nat → α) : Nat → Nat → α
  | 0, i => d i
  | f + 1, i => if i < n then F (dn_f n d F f) i else d i
def dn_x {α : Type} (n : Nat) (d : Nat → α) (F : (Nat → α) → Nat → α) (i : Nat) : α := dn_f n d F (n - i) i
theorem dn_st {α : Type} {n : Nat} {d : Nat → α} {F : (Nat → α) → Nat → α} (hF : ∀ g g' i, i < n → (∀ j, i < j → g j = g' j) → F g i = F g' i) : ∀ f f' i, n - i ≤ f → n - i ≤ f' → dn_f n d F f i = dn_f n d F f' i := by
  intro f
  induction f with
  | zero =>
    intro f' i h _
    cases f' with
    | zero => rfl
    | succ f' => simp only [dn_f]; rw [if_neg (by omega)]
  | succ f ih =>
    intro f' i h h'
    cases f' with
    | zero => simp only [dn_f]; rw [if_neg (by omega)]
    | succ f' =>
      simp only [dn_f]
      by_cases z : i < n
      · rw [if_pos z, if_pos z]
        exact hF _ _ i z (fun j hj => ih f' j (by omega) (by omega))
      · rw [if_neg z, if_neg z]
theorem dn_eq {α : Type} {n : Nat} {d : Nat → α} {F : (Nat → α) → Nat → α} (hF : ∀ g g' i, i < n → (∀ j, i < j → g j = g' j) → F g i = F g' i) {i : Nat} (hi : i < n) : dn_x n d F i = F (dn_x n d F) i := by
  unfold dn_x
  obtain ⟨k, hk⟩ : ∃ k, n - i = k + 1 := ⟨n - i - 1, by omega⟩
  rw [hk]
  simp only [dn_f]
  rw [if_pos hi]
  exact hF _ _ i hi (fun j hj => dn_st hF _ _ j (by omega) (by omega))
theorem dn_out {α : Type} {n : Nat} {d : Nat → α} {F : (Nat → α) → Nat → α} {i : Nat} (hi : n ≤ i) : dn_x n d F i = d i := by
  unfold dn_x
  rw [show n - i = 0 by omega]; rfl
/-! tokens -/
def ex_ar (k : Nat) (v : Int32) : Nat := if k < 2 then 0 else if k = 2 then 1 + v.toNatClampNeg / 128 else if k = 3 then 2 else if k < 7 then 0 else if k < 10 then 1 else if k = 17 then 1 else 2
def ex_ty (k : Nat) : Nat := if k < 4 then 0 else if k < 13 then 1 else 2
def ex_tok (k : Nat) (v : Int32) : Prop := k ≤ 17 ∧ (k = 2 → v = nI v.toNatClampNeg ∧ v.toNatClampNeg < 384 ∧ v.toNatClampNeg % 16 ≤ 10 ∧ v.toNatClampNeg / 16 % 8 ≤ 6)
def ex_hop (B : Nat → Nat) : Nat → Nat → Nat
  | 0, x => x
  | k + 1, x => ex_hop B k (B x)
theorem ex_hop_add (B : Nat → Nat) : ∀ a b x, ex_hop B (a + b) x = ex_hop B b (ex_hop B a x)
  | 0, b, x => by rw [Nat.zero_add]; rfl
  | a + 1, b, x => by rw [show a + 1 + b = a + b + 1 by omega]; exact ex_hop_add B a b (B x)
theorem ex_hop_s (B : Nat → Nat) (a x : Nat) : ex_hop B (a + 1) x = B (ex_hop B a x) := by rw [ex_hop_add]; rfl
theorem ex_hop_congr {B B' : Nat → Nat} {t : Nat} (h : ∀ x, t < x → B x = B' x) (hi : ∀ x, x < B x) : ∀ k x, t < x → ex_hop B k x = ex_hop B' k x
  | 0, _, _ => rfl
  | k + 1, x, hx => by
    show ex_hop B k (B x) = ex_hop B' k (B' x)
    rw [← h x hx]
    exact ex_hop_congr h hi k (B x) (by have := hi x; omega)
theorem ex_hop_le {B : Nat → Nat} (hi : ∀ x, x < B x) : ∀ k x, x + k ≤ ex_hop B k x
  | 0, x => Nat.le_refl _
  | k + 1, x => by
    have := ex_hop_le hi k (B x)
    have := hi x
    show _ ≤ ex_hop B k (B x)
    omega
def ex_nb (g : Nat → Nat) (x : Nat) : Nat := if x < g x then g x else x + 1
theorem ex_nb_lt (g : Nat → Nat) (x : Nat) : x < ex_nb g x := by
  unfold ex_nb
  by_cases h : x < g x
  · rw [if_pos h]; exact h
  · rw [if_neg h]; omega
def ex_B (n : Nat) (K : Nat → Nat) (V : Nat → Int32) : Nat → Nat := dn_x n (fun i => i + 1) (fun g i => ex_hop (ex_nb g) (ex_ar (K i) (V i)) (i + 1))
section
variable {n : Nat} {K : Nat → Nat} {V : Nat → Int32}
theorem ex_B_eq' {i : Nat} (hi : i < n) : ex_B n K V i = ex_hop (ex_nb (ex_B n K V)) (ex_ar (K i) (V i)) (i + 1) := by
  unfold ex_B
  refine dn_eq (F := fun g i => ex_hop (ex_nb g) (ex_ar (K i) (V i)) (i + 1)) (fun g g' i _ h => ?_) hi
  refine ex_hop_congr (t := i) (fun x hx => ?_) (ex_nb_lt g) _ _ (by omega)
  unfold ex_nb
  rw [h x hx]
theorem ex_B_lt (i : Nat) : i < ex_B n K V i := by
  rcases Nat.lt_or_ge i n with h | h
  · rw [ex_B_eq' h]
    have := ex_hop_le (ex_nb_lt (ex_B n K V)) (ex_ar (K i) (V i)) (i + 1)
    omega
  · unfold ex_B; rw [dn_out h]; omega
theorem ex_nb_B : ex_nb (ex_B n K V) = ex_B n K V := by
  funext x
  unfold ex_nb
  rw [if_pos (ex_B_lt x)]
theorem ex_B_eq {i : Nat} (hi : i < n) : ex_B n K V i = ex_hop (ex_B n K V) (ex_ar (K i) (V i)) (i + 1) := by
  have h := ex_B_eq' (n := n) (K := K) (V := V) hi
  rw [ex_nb_B] at h
  exact h
end
def ex_L (n : Nat) (K : Nat → Nat) (V : Nat → Int32) : Nat → Bool := dn_x n (fun _ => false) (fun g i => decide (K i = 5) || decide (K i = 6) || (decide (10 ≤ K i) && (g (i + 1) || (decide (K i ≠ 17) && g (ex_B n K V (i + 1))))))
theorem ex_L_eq {n : Nat} {K : Nat → Nat} {V : Nat → Int32} {i : Nat} (hi : i < n) : ex_L n K V i = (decide (K i = 5) || decide (K i = 6) || (decide (10 ≤ K i) && (ex_L n K V (i + 1) || (decide (K i ≠ 17) && ex_L n K V (ex_B n K V (i + 1)))))) := by
  unfold ex_L
  refine dn_eq (F := fun g i => decide (K i = 5) || decide (K i = 6) || (decide (10 ≤ K i) && (g (i + 1) || (decide (K i ≠ 17) && g (ex_B n K V (i + 1)))))) (fun g g' i _ h => ?_) hi
  show _ = _
  rw [h (i + 1) (by omega), h (ex_B n K V (i + 1)) (by have := ex_B_lt (n := n) (K := K) (V := V) (i + 1); omega)]
def ex_tc (K : Nat → Nat) (B : Nat → Nat) (i : Nat) : Prop := (K i = 2 → ex_ty (K (i + 1)) = 0) ∧ (K i = 3 → ex_ty (K (i + 1)) = 0 ∧ ex_ty (K (B (i + 1))) = 0) ∧ (7 ≤ K i → K i < 10 → ex_ty (K (i + 1)) = 0) ∧ (10 ≤ K i → K i < 15 → ex_ty (K (i + 1)) ≠ 2 ∧ ex_ty (K (B (i + 1))) ≠ 2)
/-- an expression of n tokens -/
def ex_OK (n : Nat) (K : Nat → Nat) (V : Nat → Int32) (i : Nat) : Prop := ex_B n K V i ≤ n ∧ (∀ j, j < ex_ar (K i) (V i) → ex_hop (ex_B n K V) j (i + 1) < n) ∧ ex_tc K (ex_B n K V) i
def ex_E (n : Nat) (K : Nat → Nat) (V : Nat → Int32) : Prop := 0 < n ∧ n ≤ 40 ∧ ex_B n K V 0 = n ∧ (∀ i, i < n → ex_tok (K i) (V i)) ∧ ∀ i, i < n → ex_OK n K V i
theorem ex_ar_le {k : Nat} {v : Int32} (h : ex_tok k v) : ex_ar k v ≤ 3 := by
  obtain ⟨h1, h2⟩ := h
  unfold ex_ar
  by_cases a : k < 2
  · rw [if_pos a]; omega
  · rw [if_neg a]
    by_cases b : k = 2
    · rw [if_pos b]; have := (h2 b).2.1; omega
    · rw [if_neg b]
      by_cases d : k = 3
      · rw [if_pos d]; omega
      · rw [if_neg d]
        by_cases e : k < 7
        · rw [if_pos e]; omega
        · rw [if_neg e]
          by_cases f : k < 10
          · rw [if_pos f]; omega
          · rw [if_neg f]
            by_cases g : k = 17
            · rw [if_pos g]; omega
            · rw [if_neg g]; omega
/-! arity, operands, types in the two programs -/
theorem tx_arity {post : Int32 → Prop} {k : Nat} {v : Int32} (h : ex_tok k v) (hp : post (nI (ex_ar k v))) : wpX_arity post (nI k) v := by
  obtain ⟨h1, h2⟩ := h
  unfold ex_ar at hp
  refine pk_lt k 2 (fun a => by rw [if_pos a] at hp; exact hp) (fun a => ?_)
  rw [if_neg (by omega)] at hp
  have key : wX_arity_18 post (nI k) v ∨ (4 ≤ k ∧ k < 7) := by
    by_cases z : 4 ≤ k ∧ k < 7
    · exact Or.inr z
    · refine Or.inl (pk_eq k 2 (fun b => ?_) (fun b => ?_))
      · rw [if_pos b] at hp
        obtain ⟨e, e2, -⟩ := h2 b
        have : (1 : Int32) + (v >>> ((7 : Int32) &&& 31)) = nI (1 + v.toNatClampNeg / 128) := by
          rw [e, pk_shrN (by omega) ((7 : Int32) &&& 31) 7 (by decide), nI_clamp (by omega)]
          exact nI_add 1 _
        rw [this]; exact hp
      · rw [if_neg b] at hp
        have k42 : k = 3 ∨ 10 ≤ k → wX_arity_42 post (nI k) := by
          intro y
          refine pk_eq k 17 (fun w => ?_) (fun w => ?_)
          · rw [if_neg (by omega), if_neg (by omega), if_neg (by omega), if_pos w] at hp; exact hp
          · by_cases d : k = 3
            · rw [if_pos d] at hp; exact hp
            · rw [if_neg d, if_neg (by omega), if_neg (by omega), if_neg w] at hp; exact hp
        refine pk_lt k 7 (fun y => k42 (by omega)) (fun y => pk_lt k 10 (fun w => ?_) (fun w => k42 (by omega)))
        rw [if_neg (by omega), if_neg (by omega), if_pos w] at hp; exact hp
  refine pk_lt k 4 (fun b => ?_) (fun b => pk_le 7 k (fun d => ?_) (fun d => ?_))
  · rcases key with z | z
    · exact z
    · omega
  · rcases key with z | z
    · exact z
    · omega
  · rw [if_neg (by omega), if_neg (by omega), if_pos (by omega)] at hp; exact hp
theorem ty_operands {post : Int32 → Prop} {k : Nat} {v : Int32} (h : ex_tok k v) (hp : post (nI (ex_ar k v))) : wpY_operands post (nI k) v := by
  obtain ⟨h1, h2⟩ := h
  unfold ex_ar at hp
  refine pk_eq k 2 (fun b => ?_) (fun b => ?_)
  · rw [if_neg (by omega), if_pos b] at hp
    obtain ⟨e, e2, -⟩ := h2 b
    have : (1 : Int32) + (v >>> ((7 : Int32) &&& 31)) = nI (1 + v.toNatClampNeg / 128) := by
      rw [e, pk_shrN (by omega) ((7 : Int32) &&& 31) 7 (by decide), nI_clamp (by omega)]
      exact nI_add 1 _
    rw [this]; exact hp
  · rw [if_neg b] at hp
    refine pk_eq k 3 (fun d => by rw [if_neg (by omega), if_pos d] at hp; exact hp) (fun d => ?_)
    rw [if_neg d] at hp
    refine pk_le k 9 (fun e => pk_le k 6 (fun f => ?_) (fun f => ?_)) (fun e => pk_le 17 k (fun f => pk_le k 6 (fun g => by omega) (fun g => ?_)) (fun f => ?_))
    · by_cases a : k < 2
      · rw [if_pos a] at hp; exact hp
      · rw [if_neg a, if_pos (by omega)] at hp; exact hp
    · rw [if_neg (by omega), if_neg (by omega), if_pos (by omega)] at hp; exact hp
    · rw [if_neg (by omega), if_neg (by omega), if_neg (by omega), if_pos (by omega)] at hp; exact hp
    · rw [if_neg (by omega), if_neg (by omega), if_neg (by omega), if_neg (by omega)] at hp; exact hp
theorem ty_typeOf {post : Int32 → Prop} {k : Nat} (hk : k ≤ 17) (hp : post (nI (ex_ty k))) : wpY_typeOf post (nI k) := by
  unfold ex_ty at hp
  refine pk_le 4 k (fun a => pk_le 13 k (fun b => ?_) (fun b => ?_)) (fun a => ?_)
  · rw [if_neg (by omega), if_neg (by omega)] at hp; exact hp
  · rw [if_neg (by omega), if_pos (by omega)] at hp; exact hp
  · rw [if_pos (by omega)] at hp; exact hp
/-- typed: the type, if the operands' types fit (a part without that operand counts as a number) -/
theorem tx_typed {post : Int32 → Prop} {k a b : Nat} (hk : k ≤ 17) (ha : a ≤ 2) (hb : b ≤ 2)
    (h1 : ((k = 2 → a = 0) ∧ (k = 3 → a = 0 ∧ b = 0) ∧ (7 ≤ k → k < 10 → a = 0) ∧ (10 ≤ k → k < 15 → a ≠ 2 ∧ b ≠ 2)) → post (nI (ex_ty k)))
    (h0 : ¬ ((k = 2 → a = 0) ∧ (k = 3 → a = 0 ∧ b = 0) ∧ (7 ≤ k → k < 10 → a = 0) ∧ (10 ≤ k → k < 15 → a ≠ 2 ∧ b ≠ 2)) → post (-1)) : wpX_typed post (nI k) (nI a) (nI b) := by
  unfold ex_ty at h1
  have k10 : k = 2 ∨ k = 3 → wX_typed_10 post (nI k) (nI a) (nI b) := by
    intro z
    rw [if_pos (by omega)] at h1
    refine pk_eq a 0 (fun x => pk_eq k 2 (fun y => h1 (by omega)) (fun y => pk_eq b 0 (fun w => h1 (by omega)) (fun w => h0 (by omega)))) (fun x => h0 (by omega))
  have k89 : k < 2 ∨ (4 ≤ k ∧ k < 7) ∨ 15 ≤ k → wX_typed_89 post (nI k) := by
    intro z
    refine pk_le 2 k (fun x => pk_le 7 k (fun y => ?_) (fun y => ?_)) (fun x => ?_)
    · have := h1 (by omega); rw [if_neg (by omega), if_neg (by omega)] at this; exact this
    · have := h1 (by omega); rw [if_neg (by omega), if_pos (by omega)] at this; exact this
    · have := h1 (by omega); rw [if_pos (by omega)] at this; exact this
  have k51 : ¬ (k = 2 ∨ k = 3) → ¬ (7 ≤ k ∧ k < 10) → wX_typed_51 post (nI k) (nI a) (nI b) := by
    intro z w
    refine pk_lt k 10 (fun x => k89 (by omega)) (fun x => pk_le 15 k (fun y => k89 (by omega)) (fun y => pk_eq a 2 (fun q => h0 (by omega)) (fun q => pk_eq b 2 (fun s => h0 (by omega)) (fun s => pk_le 13 k (fun t => ?_) (fun t => ?_)))))
    · have := h1 (by omega); rw [if_neg (by omega), if_neg (by omega)] at this; exact this
    · have := h1 (by omega); rw [if_neg (by omega), if_pos (by omega)] at this; exact this
  refine pk_eq k 2 (fun x => k10 (by omega)) (fun x => pk_eq k 3 (fun y => k10 (by omega)) (fun y => pk_lt k 7 (fun z => k51 (by omega) (by omega)) (fun z => pk_le 10 k (fun w => k51 (by omega) (by omega)) (fun w => pk_eq a 0 (fun q => ?_) (fun q => h0 (by omega))))))
  have := h1 (by omega)
  rw [if_neg (by omega), if_pos (by omega)] at this
  exact this
end
section
/-! ===== X.read: the draft read from its last token ===== -/
def lb (b : Bool) : Int32 := if b = true then 1 else 0
theorem lb_nar (b : Bool) : vp_nar .boolean (lb b) = lb b := by cases b <;> rfl
theorem lb_0 (b : Bool) : lb b = 0 ↔ b = false := by cases b <;> simp [lb]
theorem ty_inN {post : Int32 → Prop} {k a b : Nat} (hk : k < 2 ^ 31) (ha : a < 2 ^ 31) (hb : b < 2 ^ 31) (h1 : a ≤ k ∧ k ≤ b → post 1) (h0 : ¬ (a ≤ k ∧ k ≤ b) → post 0) : wpY_in post (nI k) (nI a) (nI b) :=
  pk_lt k a (fun z => h0 (by omega)) (fun z => pk_lt b k (fun y => h0 (by omega)) (fun y => h1 (by omega)))
theorem x320 (i : Nat) : (320 : Int32) + nI i = nI (320 + i) := nI_add 320 i
section
variable {post : Int32 → SX → Prop} {J : Int32 → Int32 → (Nat → Int32) → (Nat → Int32) → (Nat → Int32) → (Nat → Int32) → (Nat → Int32) → (Nat → Int32) → (Nat → Int32) → (Nat → Int32) → (Nat → Int32) → (Nat → Int32) → (Nat → Int32) → (Nat → Int32) → (Nat → Int32) → (Nat → Int32) → (Nat → Int32) → (Nat → Int32) → (Nat → Int32) → (Nat → Int32) → (Nat → Int32) → (Nat → Int32) → (Nat → Int32) → (Nat → Int32) → (Nat → Int32) → (Nat → Int32) → (Nat → Int32) → (Nat → Int32) → (Nat → Int32) → (Nat → Int32) → (Nat → Int32) → (Nat → Int32) → (Nat → Int32) → (Nat → Int32) → (Nat → Int32) → (Nat → Int32) → Prop} {f_root f_used f_counted f_sorted f_put : Int32} {a_names a_values a_parent a_first a_next a_place a_nodeAt a_end a_up a_children a_above a_named a_valueAt a_kinds a_vals a_types a_behind a_local a_length a_open a_table a_results a_known a_along a_stack a_match a_priority a_out a_on a_matched a_chosen a_waiting a_depths a_outputs : Nat → Int32}
theorem rd_268 {top i ar : Nat} {b : Bool} (hi : i < 40) (h1 : ar ≤ top) (h2 : top ≤ 40)
    (hJ : J (nI (top - ar + 1)) (nI i + (-1)) a_names a_values a_parent a_first a_next a_place a_nodeAt a_end a_up a_children a_above a_named a_valueAt a_kinds a_vals a_types a_behind (upd a_local (320 + i) (lb b)) a_length (upd a_open (top - ar) (nI i)) a_table a_results a_known a_along a_stack a_match a_priority a_out a_on a_matched a_chosen a_waiting a_depths a_outputs) :
    wX_read_268 post J (nI top) (nI i) (nI ar) (lb b) (320 + nI i) f_root f_used f_counted f_sorted f_put a_names a_values a_parent a_first a_next a_place a_nodeAt a_end a_up a_children a_above a_named a_valueAt a_kinds a_vals a_types a_behind a_local a_length a_open a_table a_results a_known a_along a_stack a_match a_priority a_out a_on a_matched a_chosen a_waiting a_depths a_outputs := by
  refine ⟨pk_in (320 + i) 360 (by omega) (x320 i), nm_r (up_n (x320 i) (by omega) (lb_nar b)) (nm_r (pk_sub h1) (nm_r (nI_1 _) ⟨pk_in (top - ar) 42 (by omega), nm_r (up_cl (by omega) (bs_nb (by omega))) (nm_e ?_)⟩))⟩
  exact hJ
theorem rd_199 {top i ar k bi : Nat} {x6 x7 z0 : Int32} {l la lc : Bool} (hi : i < 40) (h1 : ar ≤ top) (h2 : top ≤ 40) (hk : k ≤ 17) (hbi : bi ≤ 40) (hz : z0 = nI bi)
    (hl : l = (decide (k = 5) || decide (k = 6) || (decide (10 ≤ k) && (la || (decide (k ≠ 17) && lc)))))
    (h6 : 10 ≤ k → ∃ a, a < 40 ∧ x6 = nI a ∧ a_local (320 + a) = lb la) (h7 : k = 17 → x7 = -1) (h8 : 10 ≤ k → k ≠ 17 → ∃ a, a < 40 ∧ x7 = nI a ∧ a_local (320 + a) = lb lc)
    (hJ : J (nI (top - ar + 1)) (nI i + (-1)) a_names a_values a_parent a_first a_next a_place a_nodeAt a_end a_up a_children a_above a_named a_valueAt a_kinds a_vals a_types (upd a_behind (320 + i) (nI bi)) (upd a_local (320 + i) (lb l)) a_length (upd a_open (top - ar) (nI i)) a_table a_results a_known a_along a_stack a_match a_priority a_out a_on a_matched a_chosen a_waiting a_depths a_outputs) :
    wX_read_199 post J (nI top) (nI i) (nI k) (nI ar) x6 x7 z0 (320 + nI i) f_root f_used f_counted f_sorted f_put a_names a_values a_parent a_first a_next a_place a_nodeAt a_end a_up a_children a_above a_named a_valueAt a_kinds a_vals a_types a_behind a_local a_length a_open a_table a_results a_known a_along a_stack a_match a_priority a_out a_on a_matched a_chosen a_waiting a_depths a_outputs := by
  subst hz
  have T : l = true → wX_read_263 post J (nI top) (nI i) (nI ar) (320 + nI i) f_root f_used f_counted f_sorted f_put a_names a_values a_parent a_first a_next a_place a_nodeAt a_end a_up a_children a_above a_named a_valueAt a_kinds a_vals a_types (upd a_behind (320 + i) (nI bi)) a_local a_length a_open a_table a_results a_known a_along a_stack a_match a_priority a_out a_on a_matched a_chosen a_waiting a_depths a_outputs := by
    intro z
    exact rd_268 (b := true) hi h1 h2 (by rw [z] at hJ; exact hJ)
  have N : l = false → wX_read_267 post J (nI top) (nI i) (nI ar) (320 + nI i) f_root f_used f_counted f_sorted f_put a_names a_values a_parent a_first a_next a_place a_nodeAt a_end a_up a_children a_above a_named a_valueAt a_kinds a_vals a_types (upd a_behind (320 + i) (nI bi)) a_local a_length a_open a_table a_results a_known a_along a_stack a_match a_priority a_out a_on a_matched a_chosen a_waiting a_depths a_outputs := by
    intro z
    exact rd_268 (b := false) hi h1 h2 (by rw [z] at hJ; exact hJ)
  refine ⟨pk_in (320 + i) 360 (by omega) (x320 i), nm_r (up_n (x320 i) (by omega) (bs_nb (by omega))) ?_⟩
  refine pk_eq k 5 (fun a => T (by rw [hl]; simp [a])) (fun a => pk_eq k 6 (fun b => T (by rw [hl]; simp [b])) (fun b => pk_lt k 10 (fun d => N (by rw [hl]; simp [a, b]; omega)) (fun d => ?_)))
  obtain ⟨x, hx, rfl, ex⟩ := h6 (by omega)
  have ex' : a_local (320 + nI x).toNatClampNeg = lb la := by rw [cl_n (x320 x) (by omega)]; exact ex
  refine ⟨pk_in (320 + x) 360 (by omega) (x320 x), ?_⟩
  cases la with
  | true => exact br_f (fun w => absurd (ex'.symm.trans w) (by decide)) (T (by rw [hl]; simp; omega))
  | false =>
    refine br_t ex' ?_
    by_cases e : k = 17
    · rw [h7 e]
      exact br_t (by decide) (N (by rw [hl]; simp [e]))
    · obtain ⟨y, hy, rfl, ey⟩ := h8 (by omega) e
      have ey' : a_local (320 + nI y).toNatClampNeg = lb lc := by rw [cl_n (x320 y) (by omega)]; exact ey
      refine pk_lt y 0 (fun w => by omega) (fun _ => ⟨pk_in (320 + y) 360 (by omega) (x320 y), ?_⟩)
      cases lc with
      | true => exact br_f (fun w => absurd (ey'.symm.trans w) (by decide)) (T (by rw [hl]; simp [e]; omega))
      | false => exact br_t ey' (N (by rw [hl]; simp [a, b]))
end
section
variable {n : Nat} {K : Nat → Nat} {V : Nat → Int32} {post : Int32 → SX → Prop} {f_root f_used f_counted f_sorted f_put : Int32} {a_names a_values a_parent a_first a_next a_place a_nodeAt a_end a_up a_children a_above a_named a_valueAt a_kinds a_vals a_types a_behind a_local a_length a_open a_table a_results a_known a_along a_stack a_match a_priority a_out a_on a_matched a_chosen a_waiting a_depths a_outputs : Nat → Int32}
def rd_T (n : Nat) (K : Nat → Nat) (V : Nat → Int32) (t : Nat) (ty be lo : Nat → Int32) : Prop := ∀ i, t ≤ i → i < n → ty (320 + i) = nI (ex_ty (K i)) ∧ be (320 + i) = nI (ex_B n K V i) ∧ lo (320 + i) = lb (ex_L n K V i) ∧ ex_OK n K V i
def rd_F (ty be lo ty' be' lo' : Nat → Int32) : Prop := ∀ k, k < 320 → ty' k = ty k ∧ be' k = be k ∧ lo' k = lo k
theorem ex_ty_le (k : Nat) : ex_ty k ≤ 2 := by
  unfold ex_ty
  by_cases a : k < 4
  · rw [if_pos a]; omega
  · rw [if_neg a]
    by_cases b : k < 13
    · rw [if_pos b]; omega
    · rw [if_neg b]; omega
theorem ex_ar_cases {k : Nat} {v : Int32} (h : ex_tok k v) : (ex_ar k v = 0 ∧ (k < 2 ∨ 4 ≤ k ∧ k < 7)) ∨ (1 ≤ ex_ar k v ∧ k = 2) ∨ (ex_ar k v = 2 ∧ k = 3) ∨ (ex_ar k v = 1 ∧ 7 ≤ k ∧ k < 10) ∨ (ex_ar k v = 1 ∧ k = 17) ∨ (ex_ar k v = 2 ∧ 10 ≤ k ∧ k < 17) := by
  obtain ⟨h1, h2⟩ := h
  unfold ex_ar
  by_cases a : k < 2
  · rw [if_pos a]; omega
  · rw [if_neg a]
    by_cases b : k = 2
    · rw [if_pos b]; omega
    · rw [if_neg b]
      by_cases d : k = 3
      · rw [if_pos d]; omega
      · rw [if_neg d]
        by_cases e : k < 7
        · rw [if_pos e]; omega
        · rw [if_neg e]
          by_cases f : k < 10
          · rw [if_pos f]; omega
          · rw [if_neg f]
            by_cases g : k = 17
            · rw [if_pos g]; omega
            · rw [if_neg g]; omega
theorem tx_read_loop (hn : n ≤ 40) (hK : ∀ i, i < n → ex_tok (K i) (V i) ∧ a_kinds (320 + i) = nI (K i) ∧ a_vals (320 + i) = if K i = 2 ∨ K i = 4 then V i else 0)
    (h1 : ∀ ty be lo op, ex_E n K V → rd_T n K V 0 ty be lo → rd_F a_types a_behind a_local ty be lo → post 1 (f_root, f_used, f_counted, f_sorted, f_put, a_names, a_values, a_parent, a_first, a_next, a_place, a_nodeAt, a_end, a_up, a_children, a_above, a_named, a_valueAt, a_kinds, a_vals, ty, be, lo, a_length, op, a_table, a_results, a_known, a_along, a_stack, a_match, a_priority, a_out, a_on, a_matched, a_chosen, a_waiting, a_depths, a_outputs))
    (h0 : ∀ ty be lo op, ¬ ex_E n K V → rd_F a_types a_behind a_local ty be lo → post 0 (f_root, f_used, f_counted, f_sorted, f_put, a_names, a_values, a_parent, a_first, a_next, a_place, a_nodeAt, a_end, a_up, a_children, a_above, a_named, a_valueAt, a_kinds, a_vals, ty, be, lo, a_length, op, a_table, a_results, a_known, a_along, a_stack, a_match, a_priority, a_out, a_on, a_matched, a_chosen, a_waiting, a_depths, a_outputs)) :
    ∀ t top ty be lo op, t ≤ n → rd_T n K V t ty be lo → rd_F a_types a_behind a_local ty be lo → (∀ j, j < top → op (top - 1 - j) = nI (ex_hop (ex_B n K V) j t) ∧ ex_hop (ex_B n K V) j t < n) → ex_hop (ex_B n K V) top t = n → top ≤ n →
      wX_read_14 post f_root f_used f_counted f_sorted f_put (t + 1) (nI top) (nI t + (-1)) a_names a_values a_parent a_first a_next a_place a_nodeAt a_end a_up a_children a_above a_named a_valueAt a_kinds a_vals ty be lo a_length op a_table a_results a_known a_along a_stack a_match a_priority a_out a_on a_matched a_chosen a_waiting a_depths a_outputs := by
  intro t
  induction t with
  | zero =>
    intro top ty be lo op _ hT hF hO hN htop
    refine br_t (show (nI 0 + (-1) : Int32) < 0 by decide) (pk_eq top 1 (fun e => ?_) (fun e => ?_))
    · subst e
      have h00 := (hO 0 (by omega)).2
      exact h1 ty be lo op ⟨by have : ex_hop (ex_B n K V) 0 0 = 0 := rfl; omega, hn, hN, fun i hi => (hK i hi).1, fun i hi => (hT i (by omega) hi).2.2.2⟩ hT hF
    · refine h0 ty be lo op (fun E => ?_) hF
      rcases Nat.lt_trichotomy top 1 with z | z | z
      · have : top = 0 := by omega
        rw [this] at hN
        have h00 : (0 : Nat) = n := hN
        have := E.1
        omega
      · exact e z
      · have := (hO 1 z).2
        have hB : ex_hop (ex_B n K V) 1 0 = ex_B n K V 0 := rfl
        rw [hB, E.2.2.1] at this
        omega
  | succ i ih =>
    intro top ty be lo op ht hT hF hO hN htop
    rw [pk_m1]
    obtain ⟨tok, ek, ev⟩ := hK i (by omega)
    have hk17 := tok.1
    have ek' : a_kinds (320 + nI i).toNatClampNeg = nI (K i) := by rw [cl_n (x320 i) (by omega)]; exact ek
    have ev' : a_vals (320 + nI i).toNatClampNeg = if K i = 2 ∨ K i = 4 then V i else 0 := by rw [cl_n (x320 i) (by omega)]; exact ev
    have tok' : ex_tok (K i) (if K i = 2 ∨ K i = 4 then V i else 0) := by
      refine ⟨tok.1, fun e => ?_⟩
      rw [if_pos (Or.inl e)]; exact tok.2 e
    have ear : ex_ar (K i) (if K i = 2 ∨ K i = 4 then V i else 0) = ex_ar (K i) (V i) := by
      by_cases e : K i = 2
      · rw [if_pos (Or.inl e)]
      · unfold ex_ar; rw [if_neg e, if_neg e]
    refine pk_lt i 0 (fun z => by omega) (fun _ => ⟨pk_in (320 + i) 360 (by omega) (x320 i), nm_r ek' ⟨pk_in (320 + i) 360 (by omega) (x320 i), ?_⟩⟩)
    refine ek_v (P := fun w => wpX_arity _ (nI (K i)) w) ev' (tx_arity tok' ?_)
    rw [ear]
    have har3 := ex_ar_le tok
    have hcs := ex_ar_cases tok
    generalize hA : ex_ar (K i) (V i) = ar at *
    refine pk_le ar top (fun hle => ?_) (fun hgt => ?_)
    · -- operands are there
      have hB : ex_B n K V i = ex_hop (ex_B n K V) ar (i + 1) := by rw [← hA]; exact ex_B_eq (by omega)
      have hop0 : 1 ≤ ar → op (top - 1) = nI (i + 1) ∧ i + 1 < n := fun z => by
        have := hO 0 (by omega)
        rw [show top - 1 - 0 = top - 1 by omega] at this
        exact this
      have hop1 : 2 ≤ ar → op (top - 2) = nI (ex_B n K V (i + 1)) ∧ ex_B n K V (i + 1) < n := fun z => by
        have := hO 1 (by omega)
        rw [show top - 1 - 1 = top - 2 by omega] at this
        exact this
      have hOK : ex_tc K (ex_B n K V) i → ex_OK n K V i := by
        intro tc
        refine ⟨?_, fun j hj => (hO j (by rw [hA] at hj; omega)).2, tc⟩
        rw [hB]
        rcases Nat.lt_or_ge ar top with z | z
        · have := (hO ar z).2; omega
        · have e : ar = top := by omega
          rw [e, hN]; omega
      have hBn : ex_B n K V i ≤ n := by
        rw [hB]
        rcases Nat.lt_or_ge ar top with z | z
        · have := (hO ar z).2; omega
        · have e : ar = top := by omega
          rw [e, hN]; omega
      have fail : ¬ ex_tc K (ex_B n K V) i → ¬ ex_E n K V := fun z E => z (E.2.2.2.2 i (by omega)).2.2
      -- the rest of the step once the type is known
      have fin : ∀ x6 x7 : Int32, (1 ≤ ar → x6 = nI (i + 1)) → (ar ≤ 1 → x7 = -1) → (2 ≤ ar → x7 = nI (ex_B n K V (i + 1))) → ex_tc K (ex_B n K V) i → ∀ z0 : Int32, z0 = nI (ex_B n K V i) →
          wX_read_199 post (wX_read_14 post f_root f_used f_counted f_sorted f_put (i + 1)) (nI top) (nI i) (nI (K i)) (nI ar) x6 x7 z0 (320 + nI i) f_root f_used f_counted f_sorted f_put a_names a_values a_parent a_first a_next a_place a_nodeAt a_end a_up a_children a_above a_named a_valueAt a_kinds a_vals (upd ty (320 + i) (nI (ex_ty (K i)))) be lo a_length op a_table a_results a_known a_along a_stack a_match a_priority a_out a_on a_matched a_chosen a_waiting a_depths a_outputs := by
        intro x6 x7 e6 e7 e8 tc z0 hz
        refine rd_199 (l := ex_L n K V i) (la := ex_L n K V (i + 1)) (lc := ex_L n K V (ex_B n K V (i + 1))) (by omega) hle (by omega) hk17 (by omega) hz (ex_L_eq (by omega)) (fun q => ?_) (fun q => ?_) (fun q q' => ?_) ?_
        · have a1 : 1 ≤ ar := by omega
          exact ⟨i + 1, by have := (hop0 a1).2; omega, e6 a1, (hT (i + 1) (by omega) (hop0 a1).2).2.2.1⟩
        · exact e7 (by omega)
        · have a2 : 2 ≤ ar := by omega
          have hl := ex_B_lt (n := n) (K := K) (V := V) (i + 1)
          exact ⟨_, by have := (hop1 a2).2; omega, e8 a2, (hT _ (by omega) (hop1 a2).2).2.2.1⟩
        · refine ih (top - ar + 1) (upd ty (320 + i) (nI (ex_ty (K i)))) (upd be (320 + i) (nI (ex_B n K V i))) (upd lo (320 + i) (lb (ex_L n K V i))) (upd op (top - ar) (nI i)) (by omega) (fun k hk1 hk2 => ?_) (fun k hk => ?_) (fun j hj => ?_) ?_ ?_
          · by_cases e : k = i
            · rw [e, pk_us, pk_us, pk_us]; exact ⟨rfl, rfl, rfl, hOK tc⟩
            · rw [pk_un (by omega), pk_un (by omega), pk_un (by omega)]; exact hT k (by omega) hk2
          · rw [pk_un (by omega), pk_un (by omega), pk_un (by omega)]; exact hF k hk
          · cases j with
            | zero =>
              rw [show top - ar + 1 - 1 - 0 = top - ar by omega, pk_us]
              exact ⟨rfl, by show i < n; omega⟩
            | succ j =>
              rw [pk_un (by omega), show top - ar + 1 - 1 - (j + 1) = top - 1 - (ar + j) by omega]
              have := hO (ar + j) (by omega)
              rw [ex_hop_add, ← hB] at this
              exact this
          · show ex_hop (ex_B n K V) (top - ar) (ex_B n K V i) = n
            rw [hB, ← ex_hop_add, show ar + (top - ar) = top by omega]; exact hN
          · have := ex_hop_le (B := ex_B n K V) (fun x => ex_B_lt x) (top - ar + 1) i
            have e : ex_hop (ex_B n K V) (top - ar + 1) i = n := by
              show ex_hop (ex_B n K V) (top - ar) (ex_B n K V i) = n
              rw [hB, ← ex_hop_add, show ar + (top - ar) = top by omega]; exact hN
            omega
      -- typed
      have k136 : ∀ x6 x7 z0 z1 : Int32, (1 ≤ ar → x6 = nI (i + 1)) → (ar ≤ 1 → x7 = -1) → (2 ≤ ar → x7 = nI (ex_B n K V (i + 1))) → z0 = nI (if 2 ≤ ar then ex_ty (K (ex_B n K V (i + 1))) else 1) → z1 = nI (if 1 ≤ ar then ex_ty (K (i + 1)) else 1) →
          wX_read_136 post (wX_read_14 post f_root f_used f_counted f_sorted f_put (i + 1)) (nI top) (nI i) (nI (K i)) (nI ar) x6 x7 z0 z1 (nI (K i)) f_root f_used f_counted f_sorted f_put a_names a_values a_parent a_first a_next a_place a_nodeAt a_end a_up a_children a_above a_named a_valueAt a_kinds a_vals ty be lo a_length op a_table a_results a_known a_along a_stack a_match a_priority a_out a_on a_matched a_chosen a_waiting a_depths a_outputs := by
        intro x6 x7 z0 z1 e6 e7 e8 ez0 ez1
        subst ez0 ez1
        have ta : (if 1 ≤ ar then ex_ty (K (i + 1)) else 1) ≤ 2 := by
          by_cases z : 1 ≤ ar
          · rw [if_pos z]; exact ex_ty_le _
          · rw [if_neg z]; omega
        have tb : (if 2 ≤ ar then ex_ty (K (ex_B n K V (i + 1))) else 1) ≤ 2 := by
          by_cases z : 2 ≤ ar
          · rw [if_pos z]; exact ex_ty_le _
          · rw [if_neg z]; omega
        have same : ((K i = 2 → (if 1 ≤ ar then ex_ty (K (i + 1)) else 1) = 0) ∧ (K i = 3 → (if 1 ≤ ar then ex_ty (K (i + 1)) else 1) = 0 ∧ (if 2 ≤ ar then ex_ty (K (ex_B n K V (i + 1))) else 1) = 0) ∧ (7 ≤ K i → K i < 10 → (if 1 ≤ ar then ex_ty (K (i + 1)) else 1) = 0) ∧ (10 ≤ K i → K i < 15 → (if 1 ≤ ar then ex_ty (K (i + 1)) else 1) ≠ 2 ∧ (if 2 ≤ ar then ex_ty (K (ex_B n K V (i + 1))) else 1) ≠ 2)) ↔ ex_tc K (ex_B n K V) i := by
          unfold ex_tc
          rcases Nat.lt_or_ge ar 1 with z | z
          · rw [if_neg (by omega), if_neg (by omega)]
            constructor <;> intro _ <;> refine ⟨?_, ?_, ?_, ?_⟩ <;> omega
          · rw [if_pos z]
            rcases Nat.lt_or_ge ar 2 with y | y
            · rw [if_neg (by omega)]
              constructor
              · rintro ⟨q1, q2, q3, q4⟩
                exact ⟨q1, fun e => by omega, q3, fun e e' => by omega⟩
              · rintro ⟨q1, q2, q3, q4⟩
                exact ⟨q1, fun e => by omega, q3, fun e e' => by omega⟩
            · rw [if_pos y]
        refine tx_typed hk17 ta tb (fun q => ?_) (fun q => ?_)
        · have tc := same.mp q
          have hty := ex_ty_le (K i)
          refine br_t (nI_pos' (by omega)) ⟨pk_in (320 + i) 360 (by omega) (x320 i), nm_r (up_n (x320 i) (by omega) (bs_nb (by omega))) ?_⟩
          refine pk_eq ar 0 (fun z => ?_) (fun z => ?_)
          · have e : nI i + 1 = nI (ex_B n K V i) := by rw [hB, z]; exact nI_1 i
            exact fin x6 x7 e6 e7 e8 tc _ e
          · have hj := hO (ar - 1) (by omega)
            rw [show top - 1 - (ar - 1) = top - ar by omega] at hj
            have hs : nI top - nI ar = nI (top - ar) := pk_sub hle
            have e1 : op (nI top - nI ar).toNatClampNeg = nI (ex_hop (ex_B n K V) (ar - 1) (i + 1)) := by rw [cl_n hs (by omega)]; exact hj.1
            have e2 : (320 : Int32) + op (nI top - nI ar).toNatClampNeg = nI (320 + ex_hop (ex_B n K V) (ar - 1) (i + 1)) := by rw [e1]; exact x320 _
            have hge := ex_hop_le (B := ex_B n K V) (fun x => ex_B_lt x) (ar - 1) (i + 1)
            have e3 : be ((320 : Int32) + op (nI top - nI ar).toNatClampNeg).toNatClampNeg = nI (ex_B n K V i) := by
              rw [cl_n e2 (by omega), (hT _ (by omega) hj.2).2.1, ← ex_hop_s (ex_B n K V), hB]
              congr 2; omega
            exact ⟨pk_in (top - ar) 42 (by omega) hs, pk_in _ 360 (by have := hj.2; omega) e2, fin x6 x7 e6 e7 e8 tc _ e3⟩
        · exact br_f (by decide) (h0 ty be lo op (fail (fun z => q (same.mpr z))) hF)
      have k92 : ∀ x6 x7 : Int32, (ar = 0 → x6 = -1) → (1 ≤ ar → x6 = nI (i + 1)) → (ar ≤ 1 → x7 = -1) → (2 ≤ ar → x7 = nI (ex_B n K V (i + 1))) →
          wX_read_92 post (wX_read_14 post f_root f_used f_counted f_sorted f_put (i + 1)) (nI top) (nI i) (nI (K i)) (nI ar) x6 x7 f_root f_used f_counted f_sorted f_put a_names a_values a_parent a_first a_next a_place a_nodeAt a_end a_up a_children a_above a_named a_valueAt a_kinds a_vals ty be lo a_length op a_table a_results a_known a_along a_stack a_match a_priority a_out a_on a_matched a_chosen a_waiting a_depths a_outputs := by
        intro x6 x7 e5 e6 e7 e8
        have k116 : ∀ z0 : Int32, z0 = nI (if 1 ≤ ar then ex_ty (K (i + 1)) else 1) → wX_read_116 post (wX_read_14 post f_root f_used f_counted f_sorted f_put (i + 1)) (nI top) (nI i) (nI (K i)) (nI ar) x6 x7 z0 (nI (K i)) f_root f_used f_counted f_sorted f_put a_names a_values a_parent a_first a_next a_place a_nodeAt a_end a_up a_children a_above a_named a_valueAt a_kinds a_vals ty be lo a_length op a_table a_results a_known a_along a_stack a_match a_priority a_out a_on a_matched a_chosen a_waiting a_depths a_outputs := by
          intro z0 ez0
          rcases Nat.lt_or_ge ar 2 with z | z
          · have e := e7 (by omega)
            refine br_f (by rw [e]; decide) (k136 x6 x7 1 z0 e6 e7 e8 (by rw [if_neg (by omega)]; rfl) ez0)
          · have e := e8 z
            obtain ⟨-, hb⟩ := hop1 z
            have hl := ex_B_lt (n := n) (K := K) (V := V) (i + 1)
            have ex : (320 : Int32) + x7 = nI (320 + ex_B n K V (i + 1)) := by rw [e]; exact x320 _
            have et : ty ((320 : Int32) + x7).toNatClampNeg = nI (if 2 ≤ ar then ex_ty (K (ex_B n K V (i + 1))) else 1) := by
              rw [cl_n ex (by omega), (hT _ (by omega) hb).1, if_pos z]
            exact br_t (by rw [e]; exact nI_pos' (by omega)) ⟨pk_in _ 360 (by omega) ex, k136 x6 x7 _ z0 e6 e7 e8 et ez0⟩
        rcases Nat.lt_or_ge ar 1 with z | z
        · have e := e5 (by omega)
          exact br_f (by rw [e]; decide) (k116 1 (by rw [if_neg (by omega)]; rfl))
        · have e := e6 z
          obtain ⟨-, hb⟩ := hop0 z
          have ex : (320 : Int32) + x6 = nI (320 + (i + 1)) := by rw [e]; exact x320 _
          have et : ty ((320 : Int32) + x6).toNatClampNeg = nI (if 1 ≤ ar then ex_ty (K (i + 1)) else 1) := by
            rw [cl_n ex (by omega), (hT _ (by omega) hb).1, if_pos z]
          exact br_t (by rw [e]; exact nI_pos' (by omega)) ⟨pk_in _ 360 (by omega) ex, k116 _ et⟩
      have k72 : ∀ x6 : Int32, (ar = 0 → x6 = -1) → (1 ≤ ar → x6 = nI (i + 1)) → wX_read_72 post (wX_read_14 post f_root f_used f_counted f_sorted f_put (i + 1)) (nI top) (nI i) (nI (K i)) (nI ar) x6 f_root f_used f_counted f_sorted f_put a_names a_values a_parent a_first a_next a_place a_nodeAt a_end a_up a_children a_above a_named a_valueAt a_kinds a_vals ty be lo a_length op a_table a_results a_known a_along a_stack a_match a_priority a_out a_on a_matched a_chosen a_waiting a_depths a_outputs := by
        intro x6 e5 e6
        refine pk_le ar 1 (fun z => k92 x6 (-1) e5 e6 (fun _ => rfl) (fun y => by omega)) (fun z => ?_)
        have hs : nI top - 2 = nI (top - 2) := pk_sub (b := 2) (by omega)
        have e1 : op (nI top - 2).toNatClampNeg = nI (ex_B n K V (i + 1)) := by rw [cl_n hs (by omega)]; exact (hop1 z).1
        exact ⟨pk_in (top - 2) 42 (by omega) hs, k92 x6 _ e5 e6 (fun y => by omega) (fun _ => e1)⟩
      refine pk_le ar 0 (fun z => k72 (-1) (fun _ => rfl) (fun y => by omega)) (fun z => ?_)
      have hs : nI top - 1 = nI (top - 1) := pk_sub (b := 1) (by omega)
      have e1 : op (nI top - 1).toNatClampNeg = nI (i + 1) := by rw [cl_n hs (by omega)]; exact (hop0 z).1
      exact ⟨pk_in (top - 1) 42 (by omega) hs, k72 _ (fun y => by omega) (fun _ => e1)⟩
    · refine h0 ty be lo op (fun E => ?_) hF
      have := (E.2.2.2.2 i (by omega)).2.1 top (by rw [hA]; exact hgt)
      rw [hN] at this
      omega
theorem tx_read (hn : n ≤ 40) (hl : a_length 8 = nI n) (hK : ∀ i, i < n → ex_tok (K i) (V i) ∧ a_kinds (320 + i) = nI (K i) ∧ a_vals (320 + i) = if K i = 2 ∨ K i = 4 then V i else 0)
    (h1 : ∀ ty be lo op, ex_E n K V → rd_T n K V 0 ty be lo → rd_F a_types a_behind a_local ty be lo → post 1 (f_root, f_used, f_counted, f_sorted, f_put, a_names, a_values, a_parent, a_first, a_next, a_place, a_nodeAt, a_end, a_up, a_children, a_above, a_named, a_valueAt, a_kinds, a_vals, ty, be, lo, a_length, op, a_table, a_results, a_known, a_along, a_stack, a_match, a_priority, a_out, a_on, a_matched, a_chosen, a_waiting, a_depths, a_outputs))
    (h0 : ∀ ty be lo op, ¬ ex_E n K V → rd_F a_types a_behind a_local ty be lo → post 0 (f_root, f_used, f_counted, f_sorted, f_put, a_names, a_values, a_parent, a_first, a_next, a_place, a_nodeAt, a_end, a_up, a_children, a_above, a_named, a_valueAt, a_kinds, a_vals, ty, be, lo, a_length, op, a_table, a_results, a_known, a_along, a_stack, a_match, a_priority, a_out, a_on, a_matched, a_chosen, a_waiting, a_depths, a_outputs)) : wpX_read post (f_root, f_used, f_counted, f_sorted, f_put, a_names, a_values, a_parent, a_first, a_next, a_place, a_nodeAt, a_end, a_up, a_children, a_above, a_named, a_valueAt, a_kinds, a_vals, a_types, a_behind, a_local, a_length, a_open, a_table, a_results, a_known, a_along, a_stack, a_match, a_priority, a_out, a_on, a_matched, a_chosen, a_waiting, a_depths, a_outputs) := by
  have h := tx_read_loop hn hK h1 h0 n 0 a_types a_behind a_local a_open (Nat.le_refl _) (fun i a b => by omega) (fun k hk => ⟨rfl, rfl, rfl⟩) (fun j hj => by omega) rfl (by omega)
  rw [nI_0] at h
  exact nm_r hl (nm_r (e' := nI n + (-1)) (by rw [Int32.sub_eq_add_neg]) ⟨n + 1, h⟩)
end
end
section
/-! ===== Y.isWhole, Y.endOf ===== -/
section
variable {n : Nat} {K : Nat → Nat} {V : Nat → Int32} {post : Int32 → SY → Prop} {g_count g_top g_listed g_outputs : Int32} {b_row b_depth b_name b_value b_moved b_kind b_with b_length b_sets b_fresh b_type b_number b_set b_list b_there b_match b_priority b_out b_on b_todo b_within b_output : Nat → Int32}
def yw_ps (k : Nat) (j t : Nat) : Prop := ((k = 3 ∨ (k = 2 ∧ j = 0) ∨ (7 ≤ k ∧ k < 10)) → t = 0) ∧ (10 ≤ k → k < 15 → t ≠ 2)
theorem yw_tc {i : Nat} (h : ex_tok (K i) (V i)) (B : Nat → Nat) : (∀ j, j < ex_ar (K i) (V i) → yw_ps (K i) j (ex_ty (K (ex_hop B j (i + 1))))) ↔ ex_tc K B i := by
  have hcs := ex_ar_cases h
  unfold yw_ps ex_tc
  constructor
  · intro f
    refine ⟨fun e => (f 0 (by omega)).1 (by omega), fun e => ⟨(f 0 (by omega)).1 (by omega), (f 1 (by omega)).1 (by omega)⟩, fun e e' => (f 0 (by omega)).1 (by omega), fun e e' => ⟨(f 0 (by omega)).2 (by omega) (by omega), (f 1 (by omega)).2 (by omega) (by omega)⟩⟩
  · rintro ⟨f1, f2, f3, f4⟩ j hj
    refine ⟨fun q => ?_, fun q q' => ?_⟩
    · rcases Nat.lt_trichotomy (K i) 3 with z | z | z
      · have e : j = 0 := by omega
        subst e
        exact f1 (by omega)
      · have := f2 z
        rcases Nat.lt_or_ge j 1 with w | w
        · have e : j = 0 := by omega
          subst e; exact this.1
        · have e : j = 1 := by omega
          subst e; exact this.2
      · have e : j = 0 := by omega
        subst e
        exact f3 (by omega) (by omega)
    · have := f4 q q'
      rcases Nat.lt_or_ge j 1 with w | w
      · have e : j = 0 := by omega
        subst e; exact this.1
      · have e : j = 1 := by omega
        subst e; exact this.2
section
variable {J19 : Int32 → Int32 → (Nat → Int32) → (Nat → Int32) → (Nat → Int32) → (Nat → Int32) → (Nat → Int32) → (Nat → Int32) → (Nat → Int32) → (Nat → Int32) → (Nat → Int32) → (Nat → Int32) → (Nat → Int32) → (Nat → Int32) → (Nat → Int32) → (Nat → Int32) → (Nat → Int32) → (Nat → Int32) → (Nat → Int32) → (Nat → Int32) → (Nat → Int32) → (Nat → Int32) → (Nat → Int32) → (Nat → Int32) → Prop}
theorem yw_119 {J54 : Int32 → Prop} {x1 ar k j t : Nat} {sr : Bool} (hk : b_kind x1 = nI k) (hk17 : k ≤ 17) (hx : x1 < 360) (ht : t ≤ 2) (hj : j < 40)
    (h1 : (sr = true → t = 0) → (10 ≤ k → k < 15 → t ≠ 2) → J54 (nI (j + 1))) (h0 : ¬ ((sr = true → t = 0) ∧ (10 ≤ k → k < 15 → t ≠ 2)) → post 0 (g_count, g_top, g_listed, g_outputs, b_row, b_depth, b_name, b_value, b_moved, b_kind, b_with, b_length, b_sets, b_fresh, b_type, b_number, b_set, b_list, b_there, b_match, b_priority, b_out, b_on, b_todo, b_within, b_output)) :
    wY_isWhole_119 post J19 J54 (nI x1) (nI ar) (nI j) (nI t) (lb sr) g_count g_top g_listed g_outputs b_row b_depth b_name b_value b_moved b_kind b_with b_length b_sets b_fresh b_type b_number b_set b_list b_there b_match b_priority b_out b_on b_todo b_within b_output := by
  have hk' : b_kind (nI x1).toNatClampNeg = nI k := by rw [nI_clamp (by omega)]; exact hk
  have k146 : ∀ x6 : Int32, (x6 = 0 → ¬ (10 ≤ k ∧ k < 15)) → (x6 ≠ 0 → 10 ≤ k ∧ k < 15) → (sr = true → t = 0) → wY_isWhole_146 post J19 J54 (nI x1) (nI ar) (nI j) (nI t) x6 g_count g_top g_listed g_outputs b_row b_depth b_name b_value b_moved b_kind b_with b_length b_sets b_fresh b_type b_number b_set b_list b_there b_match b_priority b_out b_on b_todo b_within b_output := by
    intro x6 e0 e1 hs
    by_cases z : x6 = 0
    · exact br_t z (nm_r (nI_1 j) (h1 hs (fun a b => absurd ⟨a, b⟩ (e0 z))))
    · exact br_f z (pk_eq t 2 (fun w => h0 (fun q => q.2 (e1 z).1 (e1 z).2 w)) (fun w => nm_r (nI_1 j) (h1 hs (fun _ _ => w))))
  refine ⟨pk_in x1 360 hx, ek_v (P := fun w => wpY_in _ w 10 14) hk' (ty_inN (a := 10) (b := 14) (by omega) (by omega) (by omega) (fun q => ?_) (fun q => ?_))⟩
  · cases sr with
    | false => exact br_t rfl (k146 1 (fun z => absurd z (by decide)) (fun _ => by omega) (fun z => absurd z (by decide)))
    | true => exact br_f (by decide) (pk_eq t 0 (fun w => k146 1 (fun z => absurd z (by decide)) (fun _ => by omega) (fun _ => w)) (fun w => h0 (fun q => w (q.1 rfl))))
  · cases sr with
    | false => exact br_t rfl (k146 0 (fun _ => by omega) (fun z => absurd rfl z) (fun z => absurd z (by decide)))
    | true => exact br_f (by decide) (pk_eq t 0 (fun w => k146 0 (fun _ => by omega) (fun z => absurd rfl z) (fun _ => w)) (fun w => h0 (fun q => w (q.1 rfl))))
theorem yw_54 {x1 ar k top : Nat} (hk : b_kind x1 = nI k) (hk17 : k ≤ 17) (hx : x1 < 360) (har : ar ≤ top) (htop : top ≤ 40) (hT : g_top = nI top) {tt : Nat → Nat} (ht : ∀ j, j < ar → tt j ≤ 2 ∧ b_type (top - 1 - j) = nI (tt j))
    (h1 : (∀ j, j < ar → yw_ps k j (tt j)) → J19 (nI x1 + (-1)) (nI (top - ar + 1)) b_row b_depth b_name b_value b_moved b_kind b_with b_length b_sets b_fresh (upd b_type (top - ar) (nI (ex_ty k))) b_number b_set b_list b_there b_match b_priority b_out b_on b_todo b_within b_output)
    (h0 : ¬ (∀ j, j < ar → yw_ps k j (tt j)) → post 0 (g_count, g_top, g_listed, g_outputs, b_row, b_depth, b_name, b_value, b_moved, b_kind, b_with, b_length, b_sets, b_fresh, b_type, b_number, b_set, b_list, b_there, b_match, b_priority, b_out, b_on, b_todo, b_within, b_output)) :
    ∀ d j, j + d = ar → (∀ q, q < j → yw_ps k q (tt q)) → wY_isWhole_54 post J19 (nI x1) (nI ar) g_count g_top g_listed g_outputs b_row b_depth b_name b_value b_moved b_kind b_with b_length b_sets b_fresh b_type b_number b_set b_list b_there b_match b_priority b_out b_on b_todo b_within b_output (d + 1) (nI j) := by
  have hk' : b_kind (nI x1).toNatClampNeg = nI k := by rw [nI_clamp (by omega)]; exact hk
  have hty := ex_ty_le k
  intro d
  induction d with
  | zero =>
    intro j hj hd
    refine pk_le ar j (fun _ => ?_) (fun z => by omega)
    have e1 : g_top - nI ar = nI (top - ar) := by rw [hT]; exact pk_sub har
    refine nm_r e1 (nm_r (nI_1 _) ⟨pk_in x1 360 hx, ek_v (P := fun w => wpY_typeOf _ w) hk' (ty_typeOf hk17 ⟨pk_in (top - ar) 48 (by omega), nm_r (up_cl (by omega) rfl) (nm_e ?_)⟩)⟩)
    exact h1 (fun q hq => hd q (by omega))
  | succ d ih =>
    intro j hj hd
    obtain ⟨t1, t2⟩ := ht j (by omega)
    have e1 : g_top - 1 - nI j = nI (top - 1 - j) := by
      rw [hT, show nI top - 1 = nI (top - 1) from pk_sub (b := 1) (by omega)]; exact pk_sub (by omega)
    have e2 : b_type (g_top - 1 - nI j).toNatClampNeg = nI (tt j) := by rw [cl_n e1 (by omega)]; exact t2
    have go : ∀ sr : Bool, (sr = true ↔ (k = 3 ∨ (k = 2 ∧ j = 0) ∨ (7 ≤ k ∧ k < 10))) → wY_isWhole_119 post J19 (wY_isWhole_54 post J19 (nI x1) (nI ar) g_count g_top g_listed g_outputs b_row b_depth b_name b_value b_moved b_kind b_with b_length b_sets b_fresh b_type b_number b_set b_list b_there b_match b_priority b_out b_on b_todo b_within b_output (d + 1)) (nI x1) (nI ar) (nI j) (nI (tt j)) (lb sr) g_count g_top g_listed g_outputs b_row b_depth b_name b_value b_moved b_kind b_with b_length b_sets b_fresh b_type b_number b_set b_list b_there b_match b_priority b_out b_on b_todo b_within b_output := by
      intro sr hsr
      refine yw_119 hk hk17 hx t1 (by omega) (fun a b => ih (j + 1) (by omega) (fun q hq => ?_)) (fun q => h0 (fun f => ?_))
      · by_cases e : q = j
        · rw [e]; exact ⟨fun w => a (hsr.mpr w), b⟩
        · exact hd q (by omega)
      · have := f j (by omega)
        exact q ⟨fun w => this.1 (hsr.mp w), this.2⟩
    refine pk_le ar j (fun z => by omega) (fun _ => ⟨pk_in (top - 1 - j) 48 (by omega) e1, nm_r e2 ⟨pk_in x1 360 hx, ?_⟩⟩)
    have k98 : k ≠ 3 → ¬ (k = 2 ∧ j = 0) → wY_isWhole_98 post J19 (wY_isWhole_54 post J19 (nI x1) (nI ar) g_count g_top g_listed g_outputs b_row b_depth b_name b_value b_moved b_kind b_with b_length b_sets b_fresh b_type b_number b_set b_list b_there b_match b_priority b_out b_on b_todo b_within b_output (d + 1)) (nI x1) (nI ar) (nI j) (nI (tt j)) g_count g_top g_listed g_outputs b_row b_depth b_name b_value b_moved b_kind b_with b_length b_sets b_fresh b_type b_number b_set b_list b_there b_match b_priority b_out b_on b_todo b_within b_output := by
      intro n3 n2
      refine ⟨pk_in x1 360 hx, ek_v (P := fun w => wpY_in _ w 7 9) hk' (ty_inN (a := 7) (b := 9) (by omega) (by omega) (by omega) (fun q => ?_) (fun q => ?_))⟩
      · exact br_f (by decide) (go true (by constructor <;> intro _ <;> first | omega | rfl))
      · exact br_t rfl (go false (by constructor <;> intro z <;> first | omega | exact absurd z (by decide)))
    refine pk_eq k 3 (fun e => go true (by constructor <;> intro _ <;> first | omega | rfl)) (fun e => ⟨pk_in x1 360 hx, pk_eq k 2 (fun e2 => ?_) (fun e2 => k98 e (by omega)) hk'⟩) hk'
    exact pk_eq j 0 (fun e3 => go true (by constructor <;> intro _ <;> first | omega | rfl)) (fun e3 => k98 e (by omega))
end
theorem ty_whole_loop (hn : n ≤ 40) (hK : ∀ i, i < n → ex_tok (K i) (V i) ∧ b_kind (320 + i) = nI (K i) ∧ b_with (320 + i) = V i)
    (h1 : ∀ tp ty, ex_E n K V → post 1 (g_count, tp, g_listed, g_outputs, b_row, b_depth, b_name, b_value, b_moved, b_kind, b_with, b_length, b_sets, b_fresh, ty, b_number, b_set, b_list, b_there, b_match, b_priority, b_out, b_on, b_todo, b_within, b_output)) (h0 : ∀ tp ty, ¬ ex_E n K V → post 0 (g_count, tp, g_listed, g_outputs, b_row, b_depth, b_name, b_value, b_moved, b_kind, b_with, b_length, b_sets, b_fresh, ty, b_number, b_set, b_list, b_there, b_match, b_priority, b_out, b_on, b_todo, b_within, b_output)) :
    ∀ t top ty, t ≤ n → (∀ i, t ≤ i → i < n → ex_OK n K V i) → (∀ j, j < top → ty (top - 1 - j) = nI (ex_ty (K (ex_hop (ex_B n K V) j t))) ∧ ex_hop (ex_B n K V) j t < n) → ex_hop (ex_B n K V) top t = n → top ≤ n →
      wY_isWhole_19 post g_count g_listed g_outputs (t + 1) (nI (320 + t) + (-1)) (nI top) b_row b_depth b_name b_value b_moved b_kind b_with b_length b_sets b_fresh ty b_number b_set b_list b_there b_match b_priority b_out b_on b_todo b_within b_output := by
  intro t
  induction t with
  | zero =>
    intro top ty _ hT hO hN htop
    refine br_t (show (nI (320 + 0) + (-1) : Int32) < 320 by decide) (pk_eq top 1 (fun e => ?_) (fun e => ?_))
    · subst e
      have h00 := (hO 0 (by omega)).2
      exact h1 (nI 1) ty ⟨by have : ex_hop (ex_B n K V) 0 0 = 0 := rfl; omega, hn, hN, fun i hi => (hK i hi).1, fun i hi => hT i (by omega) hi⟩
    · refine h0 (nI top) ty (fun E => ?_)
      rcases Nat.lt_trichotomy top 1 with z | z | z
      · have : top = 0 := by omega
        rw [this] at hN
        have h00 : (0 : Nat) = n := hN
        have := E.1
        omega
      · exact e z
      · have := (hO 1 z).2
        have hB : ex_hop (ex_B n K V) 1 0 = ex_B n K V 0 := rfl
        rw [hB, E.2.2.1] at this
        omega
  | succ i ih =>
    intro top ty ht hT hO hN htop
    rw [show 320 + (i + 1) = 320 + i + 1 by omega, pk_m1]
    obtain ⟨tok, ek, ev⟩ := hK i (by omega)
    have hk17 := tok.1
    have ek' : b_kind (nI (320 + i)).toNatClampNeg = nI (K i) := by rw [nI_clamp (by omega)]; exact ek
    have ev' : b_with (nI (320 + i)).toNatClampNeg = V i := by rw [nI_clamp (by omega)]; exact ev
    refine pk_lt (320 + i) 320 (fun z => by omega) (fun _ => ⟨pk_in (320 + i) 360 (by omega), pk_in (320 + i) 360 (by omega), ?_⟩)
    refine ek_v (P := fun w => wpY_operands _ w _) ek' (ek_v (P := fun w => wpY_operands _ (nI (K i)) w) ev' (ty_operands tok ?_))
    have tcI := yw_tc tok (ex_B n K V)
    have hB : ex_B n K V i = ex_hop (ex_B n K V) (ex_ar (K i) (V i)) (i + 1) := ex_B_eq (by omega)
    have har3 := ex_ar_le tok
    generalize hA : ex_ar (K i) (V i) = ar at *
    refine pk_le ar top (fun hle => ?_) (fun hgt => ?_)
    · have hfail : ¬ ex_tc K (ex_B n K V) i → ¬ ex_E n K V := fun z E => z (E.2.2.2.2 i (by omega)).2.2
      have hOK : ex_tc K (ex_B n K V) i → ex_OK n K V i := by
        intro tc
        refine ⟨?_, fun j hj => (hO j (by rw [hA] at hj; omega)).2, tc⟩
        rw [hB]
        rcases Nat.lt_or_ge ar top with z | z
        · have := (hO ar z).2; omega
        · have e : ar = top := by omega
          rw [e, hN]; omega
      refine ⟨ar + 1, ?_⟩
      have key := yw_54 (post := post) (J19 := wY_isWhole_19 post g_count g_listed g_outputs (i + 1)) (g_top := nI top) (b_type := ty) (x1 := 320 + i) (ar := ar) (k := K i) (top := top) ek hk17 (by omega) hle (by omega) rfl (tt := fun j => ex_ty (K (ex_hop (ex_B n K V) j (i + 1)))) (fun j hj => ⟨ex_ty_le _, (hO j (by omega)).1⟩) (fun q => ?_) (fun q => h0 (nI top) ty (hfail (fun z => q (tcI.mpr z)))) ar 0 (by omega) (fun q hq => by omega)
      · rw [nI_0] at key
        exact key
      · have tc := tcI.mp q
        have e2 : ex_hop (ex_B n K V) (top - ar + 1) i = n := by
          show ex_hop (ex_B n K V) (top - ar) (ex_B n K V i) = n
          rw [hB, ← ex_hop_add, show ar + (top - ar) = top by omega]; exact hN
        refine ih (top - ar + 1) (upd ty (top - ar) (nI (ex_ty (K i)))) (by omega) (fun k a b => ?_) (fun j hj => ?_) e2 ?_
        · by_cases e : k = i
          · rw [e]; exact hOK tc
          · exact hT k (by omega) b
        · cases j with
          | zero =>
            rw [show top - ar + 1 - 1 - 0 = top - ar by omega, pk_us]
            exact ⟨rfl, by show i < n; omega⟩
          | succ j =>
            rw [pk_un (by omega), show top - ar + 1 - 1 - (j + 1) = top - 1 - (ar + j) by omega]
            have := hO (ar + j) (by omega)
            rw [ex_hop_add, ← hB] at this
            exact this
        · have := ex_hop_le (B := ex_B n K V) (fun x => ex_B_lt x) (top - ar + 1) i
          omega
    · refine h0 (nI top) ty (fun E => ?_)
      have := (E.2.2.2.2 i (by omega)).2.1 top (by rw [hA]; exact hgt)
      rw [hN] at this
      omega
theorem ty_whole (hn : n ≤ 40) (hl : b_length 8 = nI n) (hK : ∀ i, i < n → ex_tok (K i) (V i) ∧ b_kind (320 + i) = nI (K i) ∧ b_with (320 + i) = V i)
    (h1 : ∀ tp ty, ex_E n K V → post 1 (g_count, tp, g_listed, g_outputs, b_row, b_depth, b_name, b_value, b_moved, b_kind, b_with, b_length, b_sets, b_fresh, ty, b_number, b_set, b_list, b_there, b_match, b_priority, b_out, b_on, b_todo, b_within, b_output)) (h0 : ∀ tp ty, ¬ ex_E n K V → post 0 (g_count, tp, g_listed, g_outputs, b_row, b_depth, b_name, b_value, b_moved, b_kind, b_with, b_length, b_sets, b_fresh, ty, b_number, b_set, b_list, b_there, b_match, b_priority, b_out, b_on, b_todo, b_within, b_output)) : wpY_isWhole post (g_count, g_top, g_listed, g_outputs, b_row, b_depth, b_name, b_value, b_moved, b_kind, b_with, b_length, b_sets, b_fresh, b_type, b_number, b_set, b_list, b_there, b_match, b_priority, b_out, b_on, b_todo, b_within, b_output) := by
  have h := ty_whole_loop hn hK h1 h0 n 0 b_type (Nat.le_refl _) (fun i a b => by omega) (fun j hj => by omega) rfl (by omega)
  rw [nI_0] at h
  refine nm_r (e' := nI (320 + n) + (-1)) ?_ ⟨n + 1, h⟩
  have hl' : (320 : Int32) + b_length 8 = nI (320 + n) := by rw [hl]; exact x320 n
  have : (320 : Int32) + b_length 8 - 1 = nI (320 + n) + (-1) := by rw [hl', Int32.sub_eq_add_neg]
  exact this
end
/-! where a part ends -/
theorem ty_endOf_loop {g_count g_top g_listed g_outputs : Int32} {b_row b_depth b_name b_value b_moved b_kind b_with b_length b_sets b_fresh b_type b_number b_set b_list b_there b_match b_priority b_out b_on b_todo b_within b_output : Nat → Int32} {o n : Nat} {K : Nat → Nat} {V : Nat → Int32} {post : Int32 → Prop} (ho : o + n ≤ 360) (E : ex_E n K V) (hK : ∀ i, i < n → b_kind (o + i) = nI (K i) ∧ b_with (o + i) = V i) {e : Nat} (hp : post (nI (o + e))) (he : e ≤ n) :
    ∀ d m x, n - x ≤ d → ex_hop (ex_B n K V) m x = e → (∀ j, j < m → ex_hop (ex_B n K V) j x < n) → m ≤ 100 - x → x ≤ n → wY_endOf_4 post g_count g_top g_listed g_outputs b_row b_depth b_name b_value b_moved b_kind b_with b_length b_sets b_fresh b_type b_number b_set b_list b_there b_match b_priority b_out b_on b_todo b_within b_output (d + 1) (nI m) (nI (o + x)) := by
  have hn := E.2.1
  intro d
  induction d with
  | zero =>
    intro m x h1 h2 h3 hm hx
    have m0 : m = 0 := by
      rcases Nat.eq_zero_or_pos m with z | z
      · exact z
      · have : x < n := h3 0 z
        omega
    subst m0
    have h2 : x = e := h2
    rw [h2]
    exact br_t (show nI 0 ≤ 0 by decide) hp
  | succ d ih =>
    intro m x h1 h2 h3 hm hx
    rcases Nat.eq_zero_or_pos m with z | z
    · subst z
      have h2 : x = e := h2
      rw [h2]
      exact br_t (show nI 0 ≤ 0 by decide) hp
    · have hx : x < n := h3 0 z
      obtain ⟨ek, ew⟩ := hK x hx
      have tok := E.2.2.2.1 x hx
      obtain ⟨o1, o2, o3⟩ := E.2.2.2.2 x hx
      have ek' : b_kind (nI (o + x)).toNatClampNeg = nI (K x) := by rw [nI_clamp (by omega)]; exact ek
      have ew' : b_with (nI (o + x)).toNatClampNeg = V x := by rw [nI_clamp (by omega)]; exact ew
      have har := ex_ar_le tok
      refine br_f (nI_nle z (by omega)) ⟨pk_in (o + x) 360 (by omega), pk_in (o + x) 360 (by omega), ?_⟩
      refine ek_v (P := fun w => wpY_operands _ w _) ek' (ek_v (P := fun w => wpY_operands _ (nI (K x)) w) ew' (ty_operands tok ?_))
      have hB : ex_B n K V x = ex_hop (ex_B n K V) (ex_ar (K x) (V x)) (x + 1) := ex_B_eq hx
      have em : nI m + (nI (ex_ar (K x) (V x)) - 1) = nI (m - 1 + ex_ar (K x) (V x)) := by
        obtain ⟨q, rfl⟩ : ∃ q, m = q + 1 := ⟨m - 1, by omega⟩
        rw [← nI_1, Int32.sub_eq_add_neg, show q + 1 - 1 + ex_ar (K x) (V x) = q + ex_ar (K x) (V x) by omega, ← nI_add]
        have : (1 : Int32) + -1 = 0 := by decide
        rw [Int32.add_assoc, ← Int32.add_assoc 1, Int32.add_comm 1, Int32.add_assoc _ 1, this, Int32.add_zero]
      obtain ⟨q, rfl⟩ : ∃ q, m = q + 1 := ⟨m - 1, by omega⟩
      refine nm_r em (nm_r (nI_1 _) (ih _ (x + 1) (by omega) ?_ (fun j hj => ?_) ?_ (by omega)))
      · rw [show q + 1 - 1 + ex_ar (K x) (V x) = ex_ar (K x) (V x) + q by omega, ex_hop_add, ← hB]; exact h2
      · rcases Nat.lt_or_ge j (ex_ar (K x) (V x)) with y | y
        · exact o2 j y
        · obtain ⟨k, rfl⟩ : ∃ k, j = ex_ar (K x) (V x) + k := ⟨j - ex_ar (K x) (V x), by omega⟩
          rw [ex_hop_add, ← hB]
          exact h3 (k + 1) (by omega)
      · have l1 := ex_hop_le (B := ex_B n K V) (fun x => ex_B_lt x) q (ex_B n K V x)
        have l2 : ex_hop (ex_B n K V) q (ex_B n K V x) = e := h2
        have l3 := ex_hop_le (B := ex_B n K V) (fun x => ex_B_lt x) (ex_ar (K x) (V x)) (x + 1)
        omega
theorem ty_endOf {g_count g_top g_listed g_outputs : Int32} {b_row b_depth b_name b_value b_moved b_kind b_with b_length b_sets b_fresh b_type b_number b_set b_list b_there b_match b_priority b_out b_on b_todo b_within b_output : Nat → Int32} {o n : Nat} {K : Nat → Nat} {V : Nat → Int32} {post : Int32 → Prop} (ho : o + n ≤ 360) (E : ex_E n K V) (hK : ∀ i, i < n → b_kind (o + i) = nI (K i) ∧ b_with (o + i) = V i) {x : Nat} (hx : x < n) (hp : post (nI (o + ex_B n K V x))) : wpY_endOf post (g_count, g_top, g_listed, g_outputs, b_row, b_depth, b_name, b_value, b_moved, b_kind, b_with, b_length, b_sets, b_fresh, b_type, b_number, b_set, b_list, b_there, b_match, b_priority, b_out, b_on, b_todo, b_within, b_output) (nI (o + x)) := by
  have hn := E.2.1
  exact ⟨_, ty_endOf_loop ho E hK hp (E.2.2.2.2 x hx).1 (n - x) 1 x (Nat.le_refl _) rfl (fun j hj => by
    have : j = 0 := by omega
    subst this; exact hx) (by omega) (by omega)⟩
end
section
/-! ===== what expressions mean, by places ===== -/
def sm_ax (c : Nat) (D : Nat → Nat) (a x k : Nat) : Bool :=
  if a = 0 then decide (k = x) else if a = 1 then decide (tr_pr D k = some x) else if a = 2 then decide (tr_pr D x = some k)
  else if a = 3 then decide (x < k ∧ k < tr_be c D x) else if a = 4 then decide (k < x ∧ x < tr_be c D k)
  else if a = 5 then decide (x < k ∧ tr_pr D x ≠ none ∧ tr_pr D x = tr_pr D k) else if a = 6 then decide (k < x ∧ tr_pr D x ≠ none ∧ tr_pr D x = tr_pr D k)
  else if a = 7 then decide (tr_be c D x ≤ k) else if a = 8 then decide (k < x ∧ ¬ x < tr_be c D k)
  else if a = 9 then decide (x ≤ k ∧ k < tr_be c D x) else decide (k ≤ x ∧ x < tr_be c D k)
def sm_vo (va : Nat → Int32) : List Nat → Int32
  | [] => 0
  | k :: _ => va k
def sm_tot (va : Nat → Int32) : List Nat → Int32
  | [] => 0
  | k :: L => va k + sm_tot va L
def sm_vals (va : Nat → Int32) (t : Nat) (s : Int32) : List Int32 := if t = 0 then (bs_els s).map va else [s]
def sm_pl (va : Nat → Int32) (t : Nat) (s : Int32) : Int32 := if t = 0 then sm_vo va (bs_els s) else s
def sm_jn (va : Nat → Int32) (k : Nat) (p : Int32) (tp : Nat) (q : Int32) (tq : Nat) : Int32 :=
  if k = 3 then p ||| q else if k = 7 then nI (bs_els p).length else if k = 8 then sm_tot va (bs_els p) else if k = 9 then sm_vo va (bs_els p)
  else if k = 10 then sm_pl va tp p + sm_pl va tq q else if k = 11 then sm_pl va tp p - sm_pl va tq q else if k = 12 then sm_pl va tp p * sm_pl va tq q
  else if k = 13 then lb ((sm_vals va tp p).any (fun a => (sm_vals va tq q).any (fun b => decide (a < b)))) else if k = 14 then lb ((sm_vals va tp p).any (fun a => (sm_vals va tq q).any (fun b => decide (a = b))))
  else if k = 15 then lb (decide (p ≠ 0 ∧ q ≠ 0)) else if k = 16 then lb (decide (p ≠ 0 ∨ q ≠ 0)) else lb (decide (p = 0))
def sm_sift (h : Nat → Int32 → Bool) : List Nat → Nat → List Nat
  | [], _ => []
  | k :: L, j => if h k (nI (j + 1)) = true then k :: sm_sift h L (j + 1) else sm_sift h L (j + 1)
def sm_ord (tu : Bool) (s : Int32) : List Nat := if tu = true then (bs_els s).reverse else bs_els s
def sm_hold (t : Nat) (v ps : Int32) : Bool := if t = 1 then decide (v = ps) else decide (v ≠ 0)
def sm_or (al : Nat → Int32) : List Nat → Int32
  | [] => 0
  | k :: L => al k ||| sm_or al L
def sm_test (g : Nat → Nat → Int32 → Int32 → Int32) (K : Nat → Nat) (tu : Bool) (t : Nat) (s : Int32) : Int32 :=
  bs_bo (sm_sift (fun k ps => sm_hold (ex_ty (K t)) (g t k ps (nI (bs_els s).length)) ps) (sm_ord tu s) 0)
def sm_tests (g : Nat → Nat → Int32 → Int32 → Int32) (K B : Nat → Nat) (tu : Bool) : Nat → Nat → Int32 → Int32
  | 0, _, s => s
  | m + 1, t, s => sm_tests g K B tu m (B t) (sm_test g K tu t s)
def sm_base (c : Nat) (D nm : Nat → Nat) (w y : Nat) : Int32 := bs_bo ((List.range c).filter (fun k => sm_ax c D (w % 16) y k && (decide (w / 16 % 8 = 6) || decide (nm k = w / 16 % 8))))
def sm_tu (w : Nat) : Bool := decide (0 < w % 16 ∧ w % 2 = 0)
def sm_al (c : Nat) (D nm : Nat → Nat) (g : Nat → Nat → Int32 → Int32 → Int32) (K B : Nat → Nat) (w i y : Nat) : Int32 := sm_tests g K B (sm_tu w) (w / 128) (B (i + 1)) (sm_base c D nm w y)
def sm_F (c : Nat) (D nm : Nat → Nat) (va : Nat → Int32) (K B : Nat → Nat) (V : Nat → Int32) (g : Nat → Nat → Int32 → Int32 → Int32) (i : Nat) (x : Nat) (ps la : Int32) : Int32 :=
  if K i = 0 then bs_oh x else if K i = 1 then 1 else if K i = 2 then sm_or (sm_al c D nm g K B (V i).toNatClampNeg i) (bs_els (g (i + 1) x ps la))
  else if K i = 4 then V i else if K i = 5 then ps else if K i = 6 then la
  else sm_jn va (K i) (g (i + 1) x ps la) (ex_ty (K (i + 1))) (if ex_ar (K i) (V i) = 2 then g (B (i + 1)) x ps la else 0) (if ex_ar (K i) (V i) = 2 then ex_ty (K (B (i + 1))) else 1)
def sm_ev (c : Nat) (D nm : Nat → Nat) (va : Nat → Int32) (n : Nat) (K : Nat → Nat) (V : Nat → Int32) : Nat → Nat → Int32 → Int32 → Int32 :=
  dn_x n (fun _ _ _ _ => 0) (fun g i x ps la => sm_F c D nm va K (ex_B n K V) V g i x ps la)
section
variable {c : Nat} {D nm : Nat → Nat} {va : Nat → Int32} {n : Nat} {K : Nat → Nat} {V : Nat → Int32}
theorem sm_sift_congr {h h' : Nat → Int32 → Bool} : ∀ L j, (∀ k, k ∈ L → ∀ ps, h k ps = h' k ps) → sm_sift h L j = sm_sift h' L j
  | [], _, _ => rfl
  | k :: L, j, e => by
    simp only [sm_sift]
    rw [e k (List.mem_cons_self ..), sm_sift_congr L (j + 1) (fun x hx => e x (List.mem_cons_of_mem _ hx))]
theorem sm_test_congr {g g' : Nat → Nat → Int32 → Int32 → Int32} {tu : Bool} {t : Nat} {s : Int32} (h : g t = g' t) : sm_test g K tu t s = sm_test g' K tu t s := by
  unfold sm_test; rw [h]
theorem sm_tests_congr {g g' : Nat → Nat → Int32 → Int32 → Int32} {B : Nat → Nat} {tu : Bool} (hB : ∀ x, x < B x) : ∀ m t s, (∀ j, t ≤ j → g j = g' j) → sm_tests g K B tu m t s = sm_tests g' K B tu m t s
  | 0, _, _, _ => rfl
  | m + 1, t, s, h => by
    simp only [sm_tests]
    rw [sm_test_congr (h t (Nat.le_refl _)), sm_tests_congr hB m (B t) _ (fun j hj => h j (by have := hB t; omega))]
theorem sm_or_congr {al al' : Nat → Int32} : ∀ L, (∀ k, k ∈ L → al k = al' k) → sm_or al L = sm_or al' L
  | [], _ => rfl
  | k :: L, h => by
    simp only [sm_or]
    rw [h k (List.mem_cons_self ..), sm_or_congr L (fun x hx => h x (List.mem_cons_of_mem _ hx))]
theorem sm_ev_eq {i : Nat} (hi : i < n) (x : Nat) (ps la : Int32) : sm_ev c D nm va n K V i x ps la = sm_F c D nm va K (ex_B n K V) V (sm_ev c D nm va n K V) i x ps la := by
  have h := dn_eq (n := n) (d := fun _ _ _ _ => (0 : Int32)) (F := fun g i x ps la => sm_F c D nm va K (ex_B n K V) V g i x ps la) (fun g g' i _ e => ?_) hi
  · exact congrFun (congrFun (congrFun h x) ps) la
  · funext x ps la
    have hl := fun x => ex_B_lt (n := n) (K := K) (V := V) x
    have e1 := e (i + 1) (by omega)
    have e2 := e (ex_B n K V (i + 1)) (by have := hl (i + 1); omega)
    have e3 : ∀ w y, sm_al c D nm g K (ex_B n K V) w i y = sm_al c D nm g' K (ex_B n K V) w i y := fun w y => sm_tests_congr hl _ _ _ (fun j hj => e j (by have := hl (i + 1); omega))
    show sm_F c D nm va K (ex_B n K V) V g i x ps la = sm_F c D nm va K (ex_B n K V) V g' i x ps la
    unfold sm_F
    rw [e1, e2, sm_or_congr _ (fun k _ => e3 (V i).toNatClampNeg k)]
/-- parts that don't look at position or last -/
theorem sm_ev_loc : ∀ d i, n - i ≤ d → i < n → ex_E n K V → ex_L n K V i = false → ∀ x ps la ps' la', sm_ev c D nm va n K V i x ps la = sm_ev c D nm va n K V i x ps' la' := by
  intro d
  induction d with
  | zero => intro i h1 h2; omega
  | succ d ih =>
    intro i h1 h2 E hL x ps la ps' la'
    have tok := E.2.2.2.1 i h2
    obtain ⟨o1, o2, o3⟩ := E.2.2.2.2 i h2
    have hcs := ex_ar_cases tok
    rw [ex_L_eq h2] at hL
    have n5 : K i ≠ 5 := fun e => by rw [e] at hL; simp at hL
    have n6 : K i ≠ 6 := fun e => by rw [e] at hL; simp at hL
    have hl := ex_B_lt (n := n) (K := K) (V := V) (i + 1)
    rw [sm_ev_eq h2, sm_ev_eq h2]
    unfold sm_F
    by_cases k0 : K i = 0
    · rw [if_pos k0, if_pos k0]
    · rw [if_neg k0, if_neg k0]
      by_cases k1 : K i = 1
      · rw [if_pos k1, if_pos k1]
      · rw [if_neg k1, if_neg k1]
        by_cases k2 : K i = 2
        · rw [if_pos k2, if_pos k2]
          have hi1 : i + 1 < n := o2 0 (by omega)
          have t1 := o3.1 k2
          have l1 : ex_L n K V (i + 1) = false := by
            rw [ex_L_eq hi1]
            unfold ex_ty at t1
            by_cases z : K (i + 1) < 4
            · have a : K (i + 1) ≠ 5 := by omega
              have b : K (i + 1) ≠ 6 := by omega
              have e : ¬ 10 ≤ K (i + 1) := by omega
              simp [a, b, e]
            · rw [if_neg z] at t1
              by_cases y : K (i + 1) < 13
              · rw [if_pos y] at t1; omega
              · rw [if_neg y] at t1; omega
          rw [ih (i + 1) (by omega) hi1 E l1 x ps la ps' la']
        · rw [if_neg k2, if_neg k2]
          by_cases k4 : K i = 4
          · rw [if_pos k4, if_pos k4]
          · rw [if_neg k4, if_neg k4, if_neg n5, if_neg n5, if_neg n6, if_neg n6]
            have hi1 : i + 1 < n := o2 0 (by omega)
            have tyL : ∀ j, j < n → ex_ty (K j) = 0 → ex_L n K V j = false := by
              intro j hj t1
              rw [ex_L_eq hj]
              unfold ex_ty at t1
              by_cases z : K j < 4
              · have a : K j ≠ 5 := by omega
                have b : K j ≠ 6 := by omega
                have e : ¬ 10 ≤ K j := by omega
                simp [a, b, e]
              · rw [if_neg z] at t1
                by_cases y : K j < 13
                · rw [if_pos y] at t1; omega
                · rw [if_neg y] at t1; omega
            have l1 : ex_L n K V (i + 1) = false := by
              rcases Nat.lt_or_ge (K i) 10 with z | z
              · by_cases k3 : K i = 3
                · exact tyL _ hi1 (o3.2.1 k3).1
                · exact tyL _ hi1 (o3.2.2.1 (by omega) z)
              · cases q : ex_L n K V (i + 1) with
                | false => rfl
                | true => rw [q] at hL; simp at hL; omega
            rw [ih (i + 1) (by omega) hi1 E l1 x ps la ps' la']
            by_cases a2 : ex_ar (K i) (V i) = 2
            · rw [if_pos a2, if_pos a2, if_pos a2]
              have hi2 : ex_B n K V (i + 1) < n := o2 1 (by omega)
              have l2 : ex_L n K V (ex_B n K V (i + 1)) = false := by
                rcases Nat.lt_or_ge (K i) 10 with z | z
                · by_cases k3 : K i = 3
                  · exact tyL _ hi2 (o3.2.1 k3).2
                  · omega
                · cases q : ex_L n K V (ex_B n K V (i + 1)) with
                  | false => rfl
                  | true =>
                    have n17 : K i ≠ 17 := by omega
                    rw [q] at hL; simp [n17] at hL; omega
              rw [ih _ (by omega) hi2 E l2 x ps la ps' la']
            · rw [if_neg a2, if_neg a2, if_neg a2]
theorem ex_L_set {j : Nat} (hj : j < n) (t1 : ex_ty (K j) = 0) : ex_L n K V j = false := by
  rw [ex_L_eq hj]
  unfold ex_ty at t1
  by_cases z : K j < 4
  · have a : K j ≠ 5 := by omega
    have b : K j ≠ 6 := by omega
    have e : ¬ 10 ≤ K j := by omega
    simp [a, b, e]
  · rw [if_neg z] at t1
    by_cases y : K j < 13
    · rw [if_pos y] at t1; omega
    · rw [if_neg y] at t1; omega
theorem sm_or_ok {al : Nat → Int32} : ∀ L, (∀ k, k ∈ L → bs_ok c (al k)) → bs_ok c (sm_or al L)
  | [], _ => bs_0_ok c
  | k :: L, h => bs_or_ok (h k (List.mem_cons_self ..)) (sm_or_ok L (fun x hx => h x (List.mem_cons_of_mem _ hx)))
theorem sm_sift_mem {h : Nat → Int32 → Bool} : ∀ L j k, k ∈ sm_sift h L j → k ∈ L
  | [], _, _, z => by simp [sm_sift] at z
  | x :: L, j, k, z => by
    simp only [sm_sift] at z
    by_cases e : h x (nI (j + 1)) = true
    · rw [if_pos e] at z
      rcases List.mem_cons.mp z with w | w
      · rw [w]; exact List.mem_cons_self ..
      · exact List.mem_cons_of_mem _ (sm_sift_mem L (j + 1) k w)
    · rw [if_neg e] at z
      exact List.mem_cons_of_mem _ (sm_sift_mem L (j + 1) k z)
theorem sm_sift_pw {R : Nat → Nat → Prop} {h : Nat → Int32 → Bool} : ∀ L j, L.Pairwise R → (sm_sift h L j).Pairwise R
  | [], _, _ => List.Pairwise.nil
  | x :: L, j, z => by
    have z' := List.pairwise_cons.mp z
    simp only [sm_sift]
    by_cases e : h x (nI (j + 1)) = true
    · rw [if_pos e]
      exact List.pairwise_cons.mpr ⟨fun k hk => z'.1 k (sm_sift_mem L (j + 1) k hk), sm_sift_pw L (j + 1) z'.2⟩
    · rw [if_neg e]; exact sm_sift_pw L (j + 1) z'.2
theorem sm_ord_mem {tu : Bool} {s : Int32} {k : Nat} : k ∈ sm_ord tu s ↔ k ∈ bs_els s := by
  unfold sm_ord
  by_cases e : tu = true
  · rw [if_pos e]; exact List.mem_reverse
  · rw [if_neg e]
theorem sm_test_ok {g : Nat → Nat → Int32 → Int32 → Int32} {tu : Bool} {t : Nat} {s : Int32} (hc : c ≤ 24) (h : bs_ok c s) : bs_ok c (sm_test g K tu t s) :=
  bs_bo_ok (fun k hk => bs_ok_els h (sm_ord_mem.mp (sm_sift_mem _ _ k hk))) (by omega)
theorem sm_tests_ok {g : Nat → Nat → Int32 → Int32 → Int32} {B : Nat → Nat} {tu : Bool} (hc : c ≤ 24) : ∀ m t s, bs_ok c s → bs_ok c (sm_tests g K B tu m t s)
  | 0, _, _, h => h
  | m + 1, t, s, h => sm_tests_ok hc m (B t) _ (sm_test_ok hc h)
theorem sm_base_ok {w y : Nat} (hc : c ≤ 24) : bs_ok c (sm_base c D nm w y) := bs_bo_ok (fun k hk => List.mem_range.mp (List.mem_filter.mp hk).1) (by omega)
theorem sm_al_ok {g : Nat → Nat → Int32 → Int32 → Int32} {B : Nat → Nat} {w i y : Nat} (hc : c ≤ 24) : bs_ok c (sm_al c D nm g K B w i y) := sm_tests_ok hc _ _ _ (sm_base_ok hc)
/-- a set holds places of the tree only -/
theorem sm_ev_ok (hc : c ≤ 24) (hc0 : 0 < c) : ∀ d i, n - i ≤ d → i < n → ex_E n K V → ex_ty (K i) = 0 → ∀ x, x < c → ∀ ps la, bs_ok c (sm_ev c D nm va n K V i x ps la) := by
  intro d
  induction d with
  | zero => intro i h1 h2; omega
  | succ d ih =>
    intro i h1 h2 E ht x hx ps la
    have tok := E.2.2.2.1 i h2
    obtain ⟨o1, o2, o3⟩ := E.2.2.2.2 i h2
    have hcs := ex_ar_cases tok
    have hl := ex_B_lt (n := n) (K := K) (V := V) (i + 1)
    have k4 : K i < 4 := by
      unfold ex_ty at ht
      by_cases z : K i < 4
      · exact z
      · rw [if_neg z] at ht
        by_cases y : K i < 13
        · rw [if_pos y] at ht; omega
        · rw [if_neg y] at ht; omega
    rw [sm_ev_eq h2]
    unfold sm_F
    by_cases k0 : K i = 0
    · rw [if_pos k0]; exact bs_oh_ok hx (by omega)
    · rw [if_neg k0]
      by_cases k1 : K i = 1
      · rw [if_pos k1]
        intro j hj
        rw [bs_b1] at hj
        have := of_decide_eq_true hj
        omega
      · rw [if_neg k1]
        by_cases k2 : K i = 2
        · rw [if_pos k2]; exact sm_or_ok _ (fun k _ => sm_al_ok hc)
        · rw [if_neg k2, if_neg (by omega), if_neg (by omega), if_neg (by omega)]
          have k3 : K i = 3 := by omega
          have a2 : ex_ar (K i) (V i) = 2 := by omega
          unfold sm_jn
          rw [if_pos k3, if_pos a2]
          exact bs_or_ok (ih (i + 1) (by omega) (o2 0 (by omega)) E (o3.2.1 k3).1 x hx ps la) (ih (ex_B n K V (i + 1)) (by omega) (o2 1 (by omega)) E (o3.2.1 k3).2 x hx ps la)
theorem lb_01 (b : Bool) : lb b = 0 ∨ lb b = 1 := by cases b <;> simp [lb]
/-- a truth is 0 or 1 -/
theorem sm_ev_01 {i : Nat} (h2 : i < n) (ht : ex_ty (K i) = 2) (x : Nat) (ps la : Int32) : sm_ev c D nm va n K V i x ps la = 0 ∨ sm_ev c D nm va n K V i x ps la = 1 := by
  have k13 : 13 ≤ K i := by
    unfold ex_ty at ht
    by_cases z : K i < 4
    · rw [if_pos z] at ht; omega
    · rw [if_neg z] at ht
      by_cases y : K i < 13
      · rw [if_pos y] at ht; omega
      · omega
  rw [sm_ev_eq h2]
  unfold sm_F
  rw [if_neg (by omega), if_neg (by omega), if_neg (by omega), if_neg (by omega), if_neg (by omega), if_neg (by omega)]
  unfold sm_jn
  rw [if_neg (by omega), if_neg (by omega), if_neg (by omega), if_neg (by omega), if_neg (by omega), if_neg (by omega), if_neg (by omega)]
  by_cases a : K i = 13
  · rw [if_pos a]; exact lb_01 _
  · rw [if_neg a]
    by_cases b : K i = 14
    · rw [if_pos b]; exact lb_01 _
    · rw [if_neg b]
      by_cases d : K i = 15
      · rw [if_pos d]; exact lb_01 _
      · rw [if_neg d]
        by_cases e : K i = 16
        · rw [if_pos e]; exact lb_01 _
        · rw [if_neg e]; exact lb_01 _
end
end
section
/-! ===== X: sets of places ===== -/
def bs_fs (c : Nat) (P : Nat → Bool) : Int32 := bs_bo ((List.range c).filter P)
theorem bs_fs_bt {c : Nat} (hc : c ≤ 32) (P : Nat → Bool) (i : Nat) : bt (bs_fs c P) i = (decide (i < c) && P i) := by
  unfold bs_fs
  rw [bs_bo_bt (fun k hk => by have := List.mem_range.mp (List.mem_filter.mp hk).1; omega)]
  by_cases h : i < c
  · by_cases p : P i = true
    · rw [p]; simp [h, p]
    · rw [ts_nt p]; simp [p]
  · simp [h]
theorem bs_fs_ok {c : Nat} (hc : c ≤ 32) (P : Nat → Bool) : bs_ok c (bs_fs c P) := bs_bo_ok (fun k hk => List.mem_range.mp (List.mem_filter.mp hk).1) hc
theorem bs_fs_els {c : Nat} (hc : c ≤ 24) (P : Nat → Bool) : bs_els (bs_fs c P) = (List.range c).filter P :=
  bs_els_bo (List.Pairwise.filter _ List.pairwise_lt_range) (fun k hk => by have := List.mem_range.mp (List.mem_filter.mp hk).1; omega)
theorem bs_fs_eq {c : Nat} (hc : c ≤ 32) {P : Nat → Bool} {x : Int32} (hx : bs_ok c x) (h : ∀ i, i < c → bt x i = P i) : x = bs_fs c P :=
  bs_ext_ok hc hx (bs_fs_ok hc P) (fun i hi => by rw [bs_fs_bt hc, h i hi]; simp [hi])
theorem tx_bits_loop {post : Int32 → Prop} : ∀ (L : List Nat) (h : Nat), L.Pairwise (· < ·) → (∀ k, k ∈ L → k < 24) → post (nI (h + L.length)) → wX_bits_4 post (L.length + 1) (nI h) (bs_bo L)
  | [], h, _, _, hp => br_t rfl hp
  | k :: L, h, ha, hb, hp => by
    obtain ⟨a1, a2, a3, a4⟩ := bs_asc ha hb
    refine br_f a1 (nm_r (nI_1 h) (nm_r a2 (tx_bits_loop L (h + 1) (List.pairwise_cons.mp ha).2 (fun j hj => hb j (List.mem_cons_of_mem _ hj)) ?_)))
    rw [show h + 1 + L.length = h + (k :: L).length by rw [List.length_cons]; omega]; exact hp
theorem tx_bits {post : Int32 → Prop} {c : Nat} {x : Int32} (hc : c ≤ 24) (hx : bs_ok c x) (hp : post (nI (bs_els x).length)) : wpX_bits post x := by
  have h := tx_bits_loop (post := post) (bs_els x) 0 (bs_els_asc x) (fun k hk => (bs_els_mem.mp hk).1) (by rw [Nat.zero_add]; exact hp)
  rw [nI_0, bs_bo_els hx hc] at h
  exact ⟨_, h⟩
section
variable {post : Int32 → Prop} {u : SX} {c : Nat} {va : Nat → Int32}
theorem tx_valueOf (hv : ∀ i, i < c → gx_valueAt u i = va i) (hc : c ≤ 24) {x : Int32} (hx : bs_ok c x) (hp : post (sm_vo va (bs_els x))) : wpX_valueOf post u x := by
  have key : ∀ L : List Nat, L.Pairwise (· < ·) → (∀ k, k ∈ L → k < c) → post (sm_vo va L) → wpX_valueOf post u (bs_bo L) := by
    intro L ha hb hp
    cases L with
    | nil => exact br_t rfl hp
    | cons k L =>
      obtain ⟨a1, a2, a3, a4⟩ := bs_asc ha (fun j hj => by have := hb j hj; omega)
      have hk := hb k (List.mem_cons_self ..)
      refine br_f a1 (a4 _ ⟨pk_in k 24 (by omega), ?_⟩)
      have e : gx_valueAt u (nI k).toNatClampNeg = va k := by rw [nI_clamp (by omega)]; exact hv k hk
      have hp : post (va k) := hp
      rw [← e] at hp
      exact hp
  have h := key (bs_els x) (bs_els_asc x) (fun k hk => bs_ok_els hx hk) hp
  rw [bs_bo_els hx hc] at h
  exact h
theorem tx_total_loop (hv : ∀ i, i < c → gx_valueAt u i = va i) (hc : c ≤ 24) : ∀ (L : List Nat) (acc : Int32), L.Pairwise (· < ·) → (∀ k, k ∈ L → k < c) → post (acc + sm_tot va L) → xu_ (wX_total_4 post) u (L.length + 1) acc (bs_bo L)
  | [], acc, _, _, hp => br_t rfl (by have : acc + sm_tot va [] = acc := Int32.add_zero acc; rw [this] at hp; exact hp)
  | k :: L, acc, ha, hb, hp => by
    obtain ⟨a1, a2, a3, a4⟩ := bs_asc ha (fun j hj => by have := hb j hj; omega)
    have hk := hb k (List.mem_cons_self ..)
    have e : gx_valueAt u (nI k).toNatClampNeg = va k := by rw [nI_clamp (by omega)]; exact hv k hk
    have e2 : acc + gx_valueAt u (nI k).toNatClampNeg = acc + va k := by rw [e]
    refine br_f a1 (a4 _ ⟨pk_in k 24 (by omega), nm_r e2 (nm_r a2 (tx_total_loop hv hc L (acc + va k) (List.pairwise_cons.mp ha).2 (fun j hj => hb j (List.mem_cons_of_mem _ hj)) ?_))⟩)
    rw [Int32.add_assoc]; exact hp
theorem tx_total (hv : ∀ i, i < c → gx_valueAt u i = va i) (hc : c ≤ 24) {x : Int32} (hx : bs_ok c x) (hp : post (sm_tot va (bs_els x))) : wpX_total post u x := by
  have h := tx_total_loop (post := post) hv hc (bs_els x) 0 (bs_els_asc x) (fun k hk => bs_ok_els hx hk) (by rw [Int32.zero_add]; exact hp)
  rw [bs_bo_els hx hc] at h
  exact ⟨_, h⟩
theorem tx_has_loop (hv : ∀ i, i < c → gx_valueAt u i = va i) (hc : c ≤ 24) (w : Int32) : ∀ (L : List Nat), L.Pairwise (· < ·) → (∀ k, k ∈ L → k < c) → post (lb (L.any (fun k => decide (va k = w)))) → xu_ (wX_has_2 post w) u (L.length + 1) (bs_bo L)
  | [], _, _, hp => br_t rfl hp
  | k :: L, ha, hb, hp => by
    obtain ⟨a1, a2, a3, a4⟩ := bs_asc ha (fun j hj => by have := hb j hj; omega)
    have hk := hb k (List.mem_cons_self ..)
    have e : gx_valueAt u (nI k).toNatClampNeg = va k := by rw [nI_clamp (by omega)]; exact hv k hk
    refine br_f a1 (a4 _ ⟨pk_in k 24 (by omega), ?_⟩)
    by_cases z : va k = w
    · refine br_t (e.trans z) ?_
      have t : ((k :: L).any (fun k => decide (va k = w))) = true := by simp [z]
      rw [t] at hp; exact hp
    · refine br_f (fun y => z (e.symm.trans y)) (nm_r a2 (tx_has_loop hv hc w L (List.pairwise_cons.mp ha).2 (fun j hj => hb j (List.mem_cons_of_mem _ hj)) ?_))
      have t : ((k :: L).any (fun k => decide (va k = w))) = (L.any (fun k => decide (va k = w))) := by simp [z]
      rw [t] at hp; exact hp
theorem tx_has (hv : ∀ i, i < c → gx_valueAt u i = va i) (hc : c ≤ 24) (w : Int32) {x : Int32} (hx : bs_ok c x) (hp : post (lb ((bs_els x).any (fun k => decide (va k = w))))) : wpX_has post u x w := by
  have h := tx_has_loop (post := post) hv hc w (bs_els x) (bs_els_asc x) (fun k hk => bs_ok_els hx hk) hp
  rw [bs_bo_els hx hc] at h
  exact ⟨_, h⟩
theorem tx_min_loop (hv : ∀ i, i < c → gx_valueAt u i = va i) (hc : c ≤ 24) : ∀ (L : List Nat) (b : Int32), L.Pairwise (· < ·) → (∀ k, k ∈ L → k < c) → (∀ m, (m = b ∨ ∃ k, k ∈ L ∧ m = va k) → m ≤ b → (∀ k, k ∈ L → m ≤ va k) → post m) → xu_ (wX_extreme_9 post 0) u (L.length + 1) b (bs_bo L)
  | [], b, _, _, hp => br_t rfl (hp b (Or.inl rfl) (Int32.le_refl b) (fun k hk => by simp at hk))
  | k :: L, b, ha, hb, hp => by
    obtain ⟨a1, a2, a3, a4⟩ := bs_asc ha (fun j hj => by have := hb j hj; omega)
    have hk := hb k (List.mem_cons_self ..)
    have e : gx_valueAt u (nI k).toNatClampNeg = va k := by rw [nI_clamp (by omega)]; exact hv k hk
    have hL := (List.pairwise_cons.mp ha).2
    have hB := fun j hj => hb j (List.mem_cons_of_mem _ hj)
    refine br_f a1 (a4 _ ⟨pk_in k 24 (by omega), nm_r e (br_t rfl ?_)⟩)
    by_cases z : b ≤ va k
    · refine br_t z (nm_r a2 (tx_min_loop hv hc L b hL hB (fun m m1 m2 m3 => hp m ?_ m2 (fun j hj => ?_))))
      · rcases m1 with q | ⟨j, q1, q2⟩
        · exact Or.inl q
        · exact Or.inr ⟨j, List.mem_cons_of_mem _ q1, q2⟩
      · rcases List.mem_cons.mp hj with q | q
        · rw [q]; exact Int32.le_trans m2 z
        · exact m3 j q
    · refine br_f z (nm_r a2 (tx_min_loop hv hc L (va k) hL hB (fun m m1 m2 m3 => hp m ?_ ?_ (fun j hj => ?_))))
      · rcases m1 with q | ⟨j, q1, q2⟩
        · exact Or.inr ⟨k, List.mem_cons_self .., q⟩
        · exact Or.inr ⟨j, List.mem_cons_of_mem _ q1, q2⟩
      · exact Int32.le_trans m2 (Int32.le_of_lt (Int32.not_le.mp z))
      · rcases List.mem_cons.mp hj with q | q
        · rw [q]; exact m2
        · exact m3 j q
theorem tx_max_loop (hv : ∀ i, i < c → gx_valueAt u i = va i) (hc : c ≤ 24) : ∀ (L : List Nat) (b : Int32), L.Pairwise (· < ·) → (∀ k, k ∈ L → k < c) → (∀ m, (m = b ∨ ∃ k, k ∈ L ∧ m = va k) → b ≤ m → (∀ k, k ∈ L → va k ≤ m) → post m) → xu_ (wX_extreme_9 post 1) u (L.length + 1) b (bs_bo L)
  | [], b, _, _, hp => br_t rfl (hp b (Or.inl rfl) (Int32.le_refl b) (fun k hk => by simp at hk))
  | k :: L, b, ha, hb, hp => by
    obtain ⟨a1, a2, a3, a4⟩ := bs_asc ha (fun j hj => by have := hb j hj; omega)
    have hk := hb k (List.mem_cons_self ..)
    have e : gx_valueAt u (nI k).toNatClampNeg = va k := by rw [nI_clamp (by omega)]; exact hv k hk
    have hL := (List.pairwise_cons.mp ha).2
    have hB := fun j hj => hb j (List.mem_cons_of_mem _ hj)
    refine br_f a1 (a4 _ ⟨pk_in k 24 (by omega), nm_r e (br_f (by decide) ?_)⟩)
    by_cases z : va k ≤ b
    · refine br_t z (nm_r a2 (tx_max_loop hv hc L b hL hB (fun m m1 m2 m3 => hp m ?_ m2 (fun j hj => ?_))))
      · rcases m1 with q | ⟨j, q1, q2⟩
        · exact Or.inl q
        · exact Or.inr ⟨j, List.mem_cons_of_mem _ q1, q2⟩
      · rcases List.mem_cons.mp hj with q | q
        · rw [q]; exact Int32.le_trans z m2
        · exact m3 j q
    · refine br_f z (nm_r a2 (tx_max_loop hv hc L (va k) hL hB (fun m m1 m2 m3 => hp m ?_ ?_ (fun j hj => ?_))))
      · rcases m1 with q | ⟨j, q1, q2⟩
        · exact Or.inr ⟨k, List.mem_cons_self .., q⟩
        · exact Or.inr ⟨j, List.mem_cons_of_mem _ q1, q2⟩
      · exact Int32.le_trans (Int32.le_of_lt (Int32.not_le.mp z)) m2
      · rcases List.mem_cons.mp hj with q | q
        · rw [q]; exact m2
        · exact m3 j q
theorem sm_vo_mem {L : List Nat} (h : L ≠ []) : ∃ k, k ∈ L ∧ sm_vo va L = va k := by
  cases L with
  | nil => exact absurd rfl h
  | cons k L => exact ⟨k, List.mem_cons_self .., rfl⟩
theorem bs_els_ne {x : Int32} (hc : c ≤ 24) (hx : bs_ok c x) (h : x ≠ 0) : bs_els x ≠ [] := by
  intro e
  apply h
  rw [← bs_bo_els hx hc, e]; rfl
theorem bs_els_0 : bs_els 0 = [] := by
  have h := bs_els_bo (L := []) List.Pairwise.nil (fun k hk => by simp at hk)
  exact h
theorem tx_min (hv : ∀ i, i < c → gx_valueAt u i = va i) (hc : c ≤ 24) {x : Int32} (hx : bs_ok c x) (hne : x ≠ 0) (hp : ∀ m, (∃ k, k ∈ bs_els x ∧ m = va k) → (∀ k, k ∈ bs_els x → m ≤ va k) → post m) : wpX_extreme post u x 0 := by
  obtain ⟨k, k1, k2⟩ := sm_vo_mem (va := va) (bs_els_ne hc hx hne)
  obtain ⟨f_root, f_used, f_counted, f_sorted, f_put, a_names, a_values, a_parent, a_first, a_next, a_place, a_nodeAt, a_end, a_up, a_children, a_above, a_named, a_valueAt, a_kinds, a_vals, a_types, a_behind, a_local, a_length, a_open, a_table, a_results, a_known, a_along, a_stack, a_match, a_priority, a_out, a_on, a_matched, a_chosen, a_waiting, a_depths, a_outputs⟩ := u
  unfold wpX_extreme
  refine tx_valueOf hv hc hx ?_
  have h := tx_min_loop (post := post) hv hc (bs_els x) (sm_vo va (bs_els x)) (bs_els_asc x) (fun k hk => bs_ok_els hx hk) (fun m m1 m2 m3 => hp m (by
    rcases m1 with q | q
    · exact ⟨k, k1, q.trans k2⟩
    · exact q) m3)
  rw [bs_bo_els hx hc] at h
  exact ⟨_, h⟩
theorem tx_max (hv : ∀ i, i < c → gx_valueAt u i = va i) (hc : c ≤ 24) {x : Int32} (hx : bs_ok c x) (hne : x ≠ 0) (hp : ∀ m, (∃ k, k ∈ bs_els x ∧ m = va k) → (∀ k, k ∈ bs_els x → va k ≤ m) → post m) : wpX_extreme post u x 1 := by
  obtain ⟨k, k1, k2⟩ := sm_vo_mem (va := va) (bs_els_ne hc hx hne)
  obtain ⟨f_root, f_used, f_counted, f_sorted, f_put, a_names, a_values, a_parent, a_first, a_next, a_place, a_nodeAt, a_end, a_up, a_children, a_above, a_named, a_valueAt, a_kinds, a_vals, a_types, a_behind, a_local, a_length, a_open, a_table, a_results, a_known, a_along, a_stack, a_match, a_priority, a_out, a_on, a_matched, a_chosen, a_waiting, a_depths, a_outputs⟩ := u
  unfold wpX_extreme
  refine tx_valueOf hv hc hx ?_
  have h := tx_max_loop (post := post) hv hc (bs_els x) (sm_vo va (bs_els x)) (bs_els_asc x) (fun k hk => bs_ok_els hx hk) (fun m m1 m2 m3 => hp m (by
    rcases m1 with q | q
    · exact ⟨k, k1, q.trans k2⟩
    · exact q) m3)
  rw [bs_bo_els hx hc] at h
  exact ⟨_, h⟩
theorem lb_or (a b : Bool) : lb a ||| lb b = lb (a || b) := by cases a <;> cases b <;> decide
theorem lb_br {A B : Prop} {b : Bool} (h1 : b = true → B) (h0 : b = false → A) : (lb b = 0 → A) ∧ (¬ lb b = 0 → B) := by
  cases b
  · exact br_t rfl (h0 rfl)
  · exact br_f (by decide) (h1 rfl)
theorem lb_bp {b : Bool} (h : post (lb b)) : (lb b = 0 → post 0) ∧ (¬ lb b = 0 → post 1) := by
  cases b
  · exact br_t rfl h
  · exact br_f (by decide) h
theorem tx_cmp_loop (hv : ∀ i, i < c → gx_valueAt u i = va i) (hc : c ≤ 24) {q : Int32} (hq : bs_ok c q) : ∀ (L : List Nat) (b : Bool), L.Pairwise (· < ·) → (∀ k, k ∈ L → k < c) → post (lb (b || L.any (fun k => (bs_els q).any (fun j => decide (va j = va k))))) → xu_ (wX_compare_142 post q) u (L.length + 1) (lb b) (bs_bo L)
  | [], b, _, _, hp => br_t rfl (lb_bp (by rw [List.any_nil, Bool.or_false] at hp; exact hp))
  | k :: L, b, ha, hb, hp => by
    obtain ⟨a1, a2, a3, a4⟩ := bs_asc ha (fun j hj => by have := hb j hj; omega)
    have hk := hb k (List.mem_cons_self ..)
    have e : gx_valueAt u (nI k).toNatClampNeg = va k := by rw [nI_clamp (by omega)]; exact hv k hk
    refine br_f a1 (a4 _ ⟨pk_in k 24 (by omega), nm_r e (tx_has hv hc (va k) hq (nm_r (lb_or _ _) (nm_r a2 (tx_cmp_loop hv hc hq L _ (List.pairwise_cons.mp ha).2 (fun j hj => hb j (List.mem_cons_of_mem _ hj)) ?_))))⟩)
    rw [List.any_cons, ← Bool.or_assoc] at hp
    exact hp
theorem tx_compare (hv : ∀ i, i < c → gx_valueAt u i = va i) (hc : c ≤ 24) {k tp tq : Nat} {p q : Int32} (hk : k = 13 ∨ k = 14) (htp : tp ≤ 2) (htq : tq ≤ 2) (hp : tp = 0 → bs_ok c p) (hq : tq = 0 → bs_ok c q)
    (h : post (sm_jn va k p tp q tq)) : wpX_compare post u (nI k) p (nI tp) q (nI tq) := by
  have e13 : k = 13 → sm_jn va k p tp q tq = lb ((sm_vals va tp p).any (fun a => (sm_vals va tq q).any (fun b => decide (a < b)))) := by
    intro e; subst e; rfl
  have e14 : k = 14 → sm_jn va k p tp q tq = lb ((sm_vals va tp p).any (fun a => (sm_vals va tq q).any (fun b => decide (a = b)))) := by
    intro e; subst e; rfl
  have z1 : tp = 0 → p = 0 → post 0 := by
    intro a b
    have : sm_vals va tp p = [] := by unfold sm_vals; rw [if_pos a, b, bs_els_0]; rfl
    rcases hk with w | w
    · rw [e13 w, this] at h; exact h
    · rw [e14 w, this] at h; exact h
  have z2 : tq = 0 → q = 0 → post 0 := by
    intro a b
    have : sm_vals va tq q = [] := by unfold sm_vals; rw [if_pos a, b, bs_els_0]; rfl
    have f : ∀ L : List Int32, (L.any fun _ => false) = false := fun L => by induction L with
      | nil => rfl
      | cons _ _ ih => rw [List.any_cons, ih]; rfl
    rcases hk with w | w
    · rw [e13 w, this] at h
      simp only [List.any_nil, f] at h; exact h
    · rw [e14 w, this] at h
      simp only [List.any_nil, f] at h; exact h
  have m0 : ∀ (t : Nat) (s x : Int32), t = 0 → (x ∈ sm_vals va t s ↔ ∃ j, j ∈ bs_els s ∧ x = va j) := by
    intro t s x e
    unfold sm_vals
    rw [if_pos e, List.mem_map]
    exact ⟨fun ⟨j, a, b⟩ => ⟨j, a, b.symm⟩, fun ⟨j, a, b⟩ => ⟨j, a, b.symm⟩⟩
  have m1 : ∀ (t : Nat) (s x : Int32), t ≠ 0 → (x ∈ sm_vals va t s ↔ x = s) := by
    intro t s x e
    unfold sm_vals
    rw [if_neg e, List.mem_singleton]
  have fin13 : k = 13 → ∀ a b : Int32, a ∈ sm_vals va tp p → (∀ x, x ∈ sm_vals va tp p → a ≤ x) → b ∈ sm_vals va tq q → (∀ x, x ∈ sm_vals va tq q → x ≤ b) → (b ≤ a → post 0) ∧ (¬ b ≤ a → post 1) := by
    intro e a b a1 a2 b1 b2
    rw [e13 e] at h
    by_cases z : b ≤ a
    · refine br_t z ?_
      have : ((sm_vals va tp p).any (fun a => (sm_vals va tq q).any (fun b => decide (a < b)))) = false := by
        apply ts_nt
        intro w
        obtain ⟨x, x1, x2⟩ := List.any_eq_true.mp w
        obtain ⟨y, y1, y2⟩ := List.any_eq_true.mp x2
        have y2 := of_decide_eq_true y2
        have q1 := a2 x x1
        have q2 := b2 y y1
        exact absurd (Int32.lt_of_lt_of_le (Int32.lt_of_le_of_lt q1 y2) q2) (Int32.not_lt.mpr z)
      rw [this] at h; exact h
    · refine br_f z ?_
      have : ((sm_vals va tp p).any (fun a => (sm_vals va tq q).any (fun b => decide (a < b)))) = true :=
        List.any_eq_true.mpr ⟨a, a1, List.any_eq_true.mpr ⟨b, b1, decide_eq_true (Int32.not_le.mp z)⟩⟩
      rw [this] at h; exact h
  have k20 : (tp = 0 → p ≠ 0) → (tq = 0 → q ≠ 0) → xu_ (wX_compare_20 post (nI k) p (nI tp) q (nI tq)) u := by
    intro np nq
    refine pk_eq k 13 (fun e => ?_) (fun e => ?_)
    · have k40 : ∀ a : Int32, a ∈ sm_vals va tp p → (∀ x, x ∈ sm_vals va tp p → a ≤ x) → xu_ (wX_compare_40 post q (nI tq) a) u := by
        intro a a1 a2
        refine pk_eq tq 0 (fun y => tx_max hv hc (hq y) (nq y) (fun m m1 m2 => fin13 e a m a1 a2 ((m0 tq q m y).mpr m1) (fun x hx => ?_))) (fun y => fin13 e a q a1 a2 ((m1 tq q q y).mpr rfl) (fun x hx => ?_))
        · obtain ⟨j, j1, j2⟩ := (m0 tq q x y).mp hx
          rw [j2]; exact m2 j j1
        · rw [(m1 tq q x y).mp hx]; exact Int32.le_refl _
      refine pk_eq tp 0 (fun y => tx_min hv hc (hp y) (np y) (fun m m1 m2 => k40 m ((m0 tp p m y).mpr m1) (fun x hx => ?_))) (fun y => k40 p ((m1 tp p p y).mpr rfl) (fun x hx => ?_))
      · obtain ⟨j, j1, j2⟩ := (m0 tp p x y).mp hx
        rw [j2]; exact m2 j j1
      · rw [(m1 tp p x y).mp hx]; exact Int32.le_refl _
    · have k14 : k = 14 := by omega
      rw [e14 k14] at h
      have k95 : (tp = 0 ∨ tq = 0) → xu_ (wX_compare_95 post p (nI tp) q (nI tq)) u := by
        intro z
        refine pk_eq tp 0 (fun y => pk_eq tq 0 (fun w => ?_) (fun w => ?_)) (fun y => ?_)
        · have hh := tx_cmp_loop (post := post) hv hc (hq w) (bs_els p) false (bs_els_asc p) (fun k hk => bs_ok_els (hp y) hk) (by
            rw [Bool.false_or]
            have : ((bs_els p).any (fun k => (bs_els q).any (fun j => decide (va j = va k)))) = ((sm_vals va tp p).any (fun a => (sm_vals va tq q).any (fun b => decide (a = b)))) := by
              unfold sm_vals
              rw [if_pos y, if_pos w, List.any_map]
              congr 1
              funext k
              show _ = ((bs_els q).map va).any _
              rw [List.any_map]
              congr 1
              funext j
              show decide (va j = va k) = decide (va k = va j)
              by_cases e : va j = va k
              · rw [e]
              · rw [decide_eq_false e, decide_eq_false (fun z => e z.symm)]
            rw [this]; exact h)
          rw [bs_bo_els (hp y) hc] at hh
          exact ⟨_, hh⟩
        · refine tx_has hv hc q (hp y) (lb_bp ?_)
          have : ((bs_els p).any (fun k => decide (va k = q))) = ((sm_vals va tp p).any (fun a => (sm_vals va tq q).any (fun b => decide (a = b)))) := by
            unfold sm_vals
            rw [if_pos y, if_neg w, List.any_map]
            congr 1
            funext k
            simp
          rw [this]; exact h
        · have w : tq = 0 := by omega
          refine tx_has hv hc p (hq w) (lb_bp ?_)
          have : ((bs_els q).any (fun k => decide (va k = p))) = ((sm_vals va tp p).any (fun a => (sm_vals va tq q).any (fun b => decide (a = b)))) := by
            unfold sm_vals
            rw [if_neg y, if_pos w]
            show _ = [p].any _
            rw [List.any_cons, List.any_nil, Bool.or_false, List.any_map]
            congr 1
            funext j
            show decide (va j = p) = decide (p = va j)
            by_cases e : va j = p
            · rw [e]
            · rw [decide_eq_false e, decide_eq_false (fun z => e z.symm)]
          rw [this]; exact h
      refine pk_eq tp 0 (fun y => k95 (Or.inl y)) (fun y => pk_eq tq 0 (fun w => k95 (Or.inr w)) (fun w => ?_))
      have : ((sm_vals va tp p).any (fun a => (sm_vals va tq q).any (fun b => decide (a = b)))) = decide (p = q) := by
        unfold sm_vals
        rw [if_neg y, if_neg w]
        simp
      rw [this] at h
      by_cases z : p = q
      · rw [decide_eq_true z] at h; exact br_t z h
      · rw [decide_eq_false z] at h; exact br_f z h
  have k8 : (tp = 0 → p ≠ 0) → xu_ (wX_compare_8 post (nI k) p (nI tp) q (nI tq)) u := by
    intro np
    refine pk_eq tq 0 (fun y => ?_) (fun y => k20 np (fun w => absurd w y))
    by_cases z : q = 0
    · exact br_t z (z2 y z)
    · exact br_f z (k20 np (fun _ => z))
  refine pk_eq tp 0 (fun y => ?_) (fun y => k8 (fun w => absurd w y))
  by_cases z : p = 0
  · exact br_t z (z1 y z)
  · exact br_f z (k8 (fun _ => z))
/-- join: what an operation makes of its operands -/
theorem tx_join (hv : ∀ i, i < c → gx_valueAt u i = va i) (hc : c ≤ 24) {k tp tq : Nat} {p q : Int32} (hk : k = 3 ∨ (7 ≤ k ∧ k ≤ 17)) (htp : tp ≤ 2) (htq : tq ≤ 2) (hp : tp = 0 → bs_ok c p) (hq : tq = 0 → bs_ok c q) (h7 : 7 ≤ k → k < 10 → tp = 0)
    (h : post (sm_jn va k p tp q tq)) : wpX_join post u (nI k) p (nI tp) q (nI tq) := by
  have ar : 10 ≤ k → k < 13 → xu_ (wX_join_25 post (nI k) q (nI tq) (sm_pl va tp p)) u := by
    intro a b
    have k43 : xu_ (wX_join_43 post (nI k) (sm_pl va tp p) (sm_pl va tq q)) u := by
      refine pk_eq k 10 (fun e => ?_) (fun e => pk_eq k 11 (fun e2 => ?_) (fun e2 => ?_))
      · subst e; exact h
      · subst e2; exact h
      · have e3 : k = 12 := by omega
        subst e3; exact h
    refine pk_eq tq 0 (fun y => tx_valueOf hv hc (hq y) ?_) (fun y => ?_)
    · have e : sm_pl va tq q = sm_vo va (bs_els q) := by unfold sm_pl; rw [if_pos y]
      rw [e] at k43; exact k43
    · have e : sm_pl va tq q = q := by unfold sm_pl; rw [if_neg y]
      rw [e] at k43; exact k43
  have k79 : ¬ (10 ≤ k ∧ k < 13) → xu_ (wX_join_79 post (nI k) p (nI tp) q (nI tq)) u := by
    intro n
    refine pk_lt k 3 (fun z => by omega) (fun _ => pk_lt 17 k (fun z => by omega) (fun _ => pk_eq k 3 (fun e => by subst e; exact h) (fun e3 => pk_eq k 4 (fun z => by omega) (fun _ => pk_eq k 5 (fun z => by omega) (fun _ => pk_eq k 6 (fun z => by omega) (fun _ => pk_eq k 7 (fun e => ?_) (fun e7 => pk_eq k 8 (fun e => ?_) (fun e8 => pk_eq k 9 (fun e => ?_) (fun e9 => pk_eq k 10 (fun z => by omega) (fun _ => pk_eq k 11 (fun z => by omega) (fun _ => pk_eq k 12 (fun z => by omega) (fun _ => pk_eq k 13 (fun e => ?_) (fun e13 => pk_eq k 14 (fun e => ?_) (fun e14 => pk_eq k 15 (fun e => ?_) (fun e15 => pk_eq k 16 (fun e => ?_) (fun e16 => pk_eq k 17 (fun e => ?_) (fun e17 => by omega)))))))))))))))))
    · have t := h7 (by omega) (by omega)
      subst e; exact tx_bits hc (hp t) h
    · have t := h7 (by omega) (by omega)
      subst e; exact tx_total hv hc (hp t) h
    · have t := h7 (by omega) (by omega)
      subst e; exact tx_valueOf hv hc (hp t) h
    · exact tx_compare hv hc (Or.inl e) htp htq hp hq h
    · exact tx_compare hv hc (Or.inr e) htp htq hp hq h
    · subst e
      have h : post (lb (decide (p ≠ 0 ∧ q ≠ 0))) := h
      by_cases z : p = 0
      · rw [decide_eq_false (fun w => w.1 z)] at h; exact br_t z h
      · by_cases y : q = 0
        · rw [decide_eq_false (fun w => w.2 y)] at h; exact br_f z (br_t y h)
        · rw [decide_eq_true ⟨z, y⟩] at h; exact br_f z (br_f y h)
    · subst e
      have h : post (lb (decide (p ≠ 0 ∨ q ≠ 0))) := h
      by_cases z : p = 0
      · by_cases y : q = 0
        · rw [decide_eq_false (fun w => w.elim (fun a => a z) (fun a => a y))] at h; exact br_t z (br_t y h)
        · rw [decide_eq_true (Or.inr y)] at h; exact br_t z (br_f y h)
      · rw [decide_eq_true (Or.inl z)] at h; exact br_f z h
    · subst e
      have h : post (lb (decide (p = 0))) := h
      by_cases z : p = 0
      · rw [decide_eq_true z] at h; exact br_t z h
      · rw [decide_eq_false z] at h; exact br_f z h
  refine pk_le k 9 (fun z => k79 (by omega)) (fun z => pk_le 13 k (fun y => k79 (by omega)) (fun y => ?_))
  have a := ar (by omega) (by omega)
  refine pk_eq tp 0 (fun w => tx_valueOf hv hc (hp w) ?_) (fun w => ?_)
  · have e : sm_pl va tp p = sm_vo va (bs_els p) := by unfold sm_pl; rw [if_pos w]
    rw [e] at a; exact a
  · have e : sm_pl va tp p = p := by unfold sm_pl; rw [if_neg w]
    rw [e] at a; exact a
end
end
section
/-! ===== X.count: places, ends, sets ===== -/
def xx_ct (c : Nat) (r D nm : Nat → Nat) (va : Nat → Int32) (pl na en up ch ab nd vv : Nat → Int32) : Prop :=
  (∀ i, i < c → pl (r i) = nI i ∧ na i = nI (r i) ∧ en i = nI (tr_be c D i - 1) ∧ up i = tr_nd id (tr_pr D i) ∧ ch i = bs_fs c (fun k => decide (tr_pr D k = some i)) ∧ ab i = bs_fs c (fun k => decide (k < i ∧ i < tr_be c D k)) ∧ vv i = va i) ∧
  ∀ a, a < 7 → nd a = bs_fs c (fun k => decide (a = 6) || decide (nm k = a))
def xx_ci (c : Nat) (r D nm : Nat → Nat) (va : Nat → Int32) (m : Nat) (pl na en up ch ab nd vv : Nat → Int32) : Prop :=
  (∀ i, i < m → pl (r i) = nI i ∧ na i = nI (r i) ∧ (tr_be c D i ≤ m → en i = nI (tr_be c D i - 1)) ∧ up i = tr_nd id (tr_pr D i) ∧ ch i = bs_fs m (fun k => decide (tr_pr D k = some i)) ∧ ab i = bs_fs c (fun k => decide (k < i ∧ i < tr_be c D k)) ∧ vv i = va i) ∧
  ∀ a, a < 7 → nd a = bs_fs m (fun k => decide (a = 6) || decide (nm k = a))
theorem bs_fs_s {m : Nat} (hm : m < 32) (P : Nat → Bool) : bs_fs (m + 1) P = if P m = true then bs_fs m P ||| bs_oh m else bs_fs m P := by
  by_cases h : P m = true
  · rw [if_pos h]
    apply b_ext
    intro i _
    rw [bs_fs_bt (by omega), b_or, bs_fs_bt (by omega), bs_oh_bt i hm]
    by_cases e : i = m
    · subst e; simp [h]
    · by_cases l : i < m
      · have : i < m + 1 := by omega
        simp [l, this, e]
      · have : ¬ i < m + 1 := by omega
        simp [l, this, e]
  · rw [if_neg h]
    apply b_ext
    intro i _
    rw [bs_fs_bt (by omega), bs_fs_bt (by omega)]
    by_cases e : i = m
    · subst e; simp [ts_nt h]
    · by_cases l : i < m
      · have : i < m + 1 := by omega
        simp [l, this]
      · have : ¬ i < m + 1 := by omega
        simp [l, this]
theorem bs_fs_0 (P : Nat → Bool) : bs_fs 0 P = 0 := rfl
theorem bs_fs_none {c : Nat} (hc : c ≤ 32) {P : Nat → Bool} (h : ∀ i, i < c → P i = false) : bs_fs c P = 0 :=
  (bs_fs_eq hc (bs_0_ok c) (fun i hi => by rw [b_0, h i hi])).symm
section
variable {c : Nat} {r D nm : Nat → Nat} {va : Nat → Int32} {f_root f_used f_counted f_sorted f_put : Int32} {a_names a_values a_parent a_first a_next a_place a_nodeAt a_end a_up a_children a_above a_named a_valueAt a_kinds a_vals a_types a_behind a_local a_length a_open a_table a_results a_known a_along a_stack a_match a_priority a_out a_on a_matched a_chosen a_waiting a_depths a_outputs : Nat → Int32}
theorem tr_above {k p j : Nat} (W : tr_W c D) (hk : k < c) (hp : tr_Pa D k p) : (j < k ∧ k < tr_be c D j) ↔ (j < p ∧ p < tr_be c D j) ∨ j = p := by
  obtain ⟨q1, q2, q3⟩ := (tr_Pa_be W hk).mp hp
  obtain ⟨p1, p2, p3⟩ := hp
  constructor
  · rintro ⟨a, b⟩
    rcases Nat.lt_trichotomy j p with z | z | z
    · exact Or.inl ⟨z, by omega⟩
    · exact Or.inr z
    · have := p3 j z a
      have := (tr_be_spec (c := c) (D := D) (i := j) (by omega)).2.2.1 k a b
      omega
  · rintro (⟨a, b⟩ | a)
    · obtain ⟨b1, b2, b3, b4⟩ := tr_be_spec (c := c) (D := D) (i := j) (by omega)
      refine ⟨by omega, ?_⟩
      rcases Nat.lt_or_ge k (tr_be c D j) with z | z
      · exact z
      · have h1 := b3 p a b
        have h2 := b4 (by omega)
        rcases Nat.lt_or_ge (tr_be c D j) k with w | w
        · have := p3 _ b w; omega
        · have e : tr_be c D j = k := by omega
          rw [e] at h2; omega
    · subst a; exact ⟨q1, q2⟩
theorem tx_onward_loop (W : tr_TW c r D nm) (L : tr_LK c D r a_first a_next a_parent) {post : Int32 → SX → Prop} {k : Nat} (hk : k < c) (hpl : ∀ j, j ≤ k → a_place (r j) = nI j)
    (hp : ∀ en', (∀ j, j ≤ k → tr_be c D j ≤ k + 1 → en' j = nI (tr_be c D j - 1)) → post (if k + 1 < c then nI (r (k + 1)) else -1) (f_root, f_used, f_counted, f_sorted, f_put, a_names, a_values, a_parent, a_first, a_next, a_place, a_nodeAt, en', a_up, a_children, a_above, a_named, a_valueAt, a_kinds, a_vals, a_types, a_behind, a_local, a_length, a_open, a_table, a_results, a_known, a_along, a_stack, a_match, a_priority, a_out, a_on, a_matched, a_chosen, a_waiting, a_depths, a_outputs)) :
    ∀ d q en, q ≤ d → q ≤ k → tr_be c D q = k + 1 → (∀ j, j ≤ k → tr_be c D j ≤ k → en j = nI (tr_be c D j - 1)) → (∀ j, q ≤ j → j ≤ k → tr_be c D j = k + 1 → en j = nI k) →
      wX_onward_31 post (nI k) f_root f_used f_counted f_sorted f_put (d + 1) (nI (r q)) a_names a_values a_parent a_first a_next a_place a_nodeAt en a_up a_children a_above a_named a_valueAt a_kinds a_vals a_types a_behind a_local a_length a_open a_table a_results a_known a_along a_stack a_match a_priority a_out a_on a_matched a_chosen a_waiting a_depths a_outputs := by
  have hc := W.1
  have hr := W.2.1
  have fin : ∀ (q : Nat) (en : Nat → Int32), q ≤ k → tr_be c D q = k + 1 → (∀ j, j ≤ k → tr_be c D j ≤ k → en j = nI (tr_be c D j - 1)) → (∀ j, q ≤ j → j ≤ k → tr_be c D j = k + 1 → en j = nI k) → (q = 0 ∨ (k + 1 < c ∧ D (k + 1) = D q)) → ∀ j, j ≤ k → tr_be c D j ≤ k + 1 → en j = nI (tr_be c D j - 1) := by
    intro q en hq hb h1 h2 h3 j hj hbj
    rcases Nat.lt_or_ge (tr_be c D j) (k + 1) with z | z
    · exact h1 j hj (by omega)
    · have e : tr_be c D j = k + 1 := by omega
      rw [e, Nat.add_sub_cancel]
      refine h2 j ?_ hj e
      rcases h3 with w | ⟨w1, w2⟩
      · omega
      · rcases Nat.lt_or_ge j q with y | y
        · obtain ⟨b1, b2, b3, b4⟩ := tr_be_spec (c := c) (D := D) (i := j) (by omega)
          have := b3 q y (by omega)
          rw [e] at b4
          have := b4 w1
          omega
        · exact y
  intro d
  induction d with
  | zero =>
    intro q en hd hq hb h1 h2
    have q0 : q = 0 := by omega
    subst q0
    have hr0 := hr 0 (by omega)
    obtain ⟨b1, b2, b3, b4⟩ := tr_be_spec (c := c) (D := D) (i := 0) (by omega)
    have hkc : k + 1 = c := by
      rcases Nat.lt_or_ge (k + 1) c with z | z
      · rw [hb] at b4
        have := b4 z
        have := tr_W_pos W.2.2.2.1 (i := k + 1) (by omega) z
        have := W.2.2.2.1.1 (by omega)
        omega
      · omega
    have en0 : a_next (nI (r 0)).toNatClampNeg = -1 := by
      rw [nI_clamp (by omega), (L 0 (by omega)).2.1]
      unfold tr_nx
      rw [hb, if_neg (by omega)]; rfl
    have ep0 : a_parent (nI (r 0)).toNatClampNeg = -1 := by
      rw [nI_clamp (by omega), (L 0 (by omega)).2.2, tr_pr_0]; rfl
    have hp' := hp en (fin 0 en hq hb h1 h2 (Or.inl rfl))
    rw [if_neg (by omega), ← en0] at hp'
    exact ⟨pk_in (r 0) 24 hr0, br_f (by rw [en0]; decide) ⟨pk_in (r 0) 24 hr0, br_t (by rw [ep0]; decide) ⟨pk_in (r 0) 24 hr0, hp'⟩⟩⟩
  | succ d ih =>
    intro q en hd hq hb h1 h2
    have hrq := hr q (by omega)
    by_cases z : k + 1 < c ∧ D (k + 1) = D q
    · have en0 : a_next (nI (r q)).toNatClampNeg = nI (r (k + 1)) := by
        rw [nI_clamp (by omega), (L q (by omega)).2.1]
        unfold tr_nx
        rw [hb, if_pos z]; rfl
      have hr1 := hr (k + 1) z.1
      have hp' := hp en (fin q en hq hb h1 h2 (Or.inr z))
      rw [if_pos z.1, ← en0] at hp'
      exact ⟨pk_in (r q) 24 hrq, br_t (by rw [en0]; exact nI_pos' (by omega)) ⟨pk_in (r q) 24 hrq, hp'⟩⟩
    · have en0 : a_next (nI (r q)).toNatClampNeg = -1 := by
        rw [nI_clamp (by omega), (L q (by omega)).2.1]
        unfold tr_nx
        rw [hb, if_neg z]; rfl
      refine ⟨pk_in (r q) 24 hrq, br_f (by rw [en0]; decide) ⟨pk_in (r q) 24 hrq, ?_⟩⟩
      rcases Nat.eq_zero_or_pos q with y | y
      · subst y
        have ep0 : a_parent (nI (r 0)).toNatClampNeg = -1 := by
          rw [nI_clamp (by omega), (L 0 (by omega)).2.2, tr_pr_0]; rfl
        obtain ⟨b1, b2, b3, b4⟩ := tr_be_spec (c := c) (D := D) (i := 0) (by omega)
        have hkc : k + 1 = c := by
          rcases Nat.lt_or_ge (k + 1) c with z | z
          · rw [hb] at b4
            have := b4 z
            have := tr_W_pos W.2.2.2.1 (i := k + 1) (by omega) z
            have := W.2.2.2.1.1 (by omega)
            omega
          · omega
        have hp' := hp en (fin 0 en hq hb h1 h2 (Or.inl rfl))
        rw [if_neg (by omega), ← en0] at hp'
        exact br_t (by rw [ep0]; decide) ⟨pk_in (r 0) 24 hrq, hp'⟩
      · obtain ⟨p, e, hpa⟩ := tr_pr_ex W.2.2.2.1 y (by omega)
        obtain ⟨p1, p2, p3⟩ := (tr_Pa_be W.2.2.2.1 (by omega)).mp hpa
        have hrp := hr p (by omega)
        have ep : a_parent (nI (r q)).toNatClampNeg = nI (r p) := by
          rw [nI_clamp (by omega), (L q (by omega)).2.2, e]; rfl
        have epl : a_place (nI (r p)).toNatClampNeg = nI p := by rw [nI_clamp (by omega)]; exact hpl p (by omega)
        obtain ⟨b1, b2, b3, b4⟩ := tr_be_spec (c := c) (D := D) (i := q) (by omega)
        obtain ⟨c1, c2, c3, c4⟩ := tr_be_spec (c := c) (D := D) (i := p) (by omega)
        have hbp : tr_be c D p = k + 1 := by
          apply tr_be_eq
          refine ⟨by omega, by omega, fun j a b => ?_, fun a => ?_⟩
          · rcases Nat.lt_or_ge j (tr_be c D p) with w | w
            · exact c3 j a w
            · rcases Nat.lt_trichotomy j q with v | v | v
              · omega
              · omega
              · have := b3 j v (by omega); omega
          · rw [hb] at b4
            have := b4 a
            have : D (k + 1) ≠ D q := fun w => z ⟨a, w⟩
            omega
        refine br_f (by rw [ep]; exact nI_pos (by omega)) ⟨pk_in (r q) 24 hrq, nm_r ep ⟨pk_in (r p) 24 hrp, pk_in p 24 (by omega) epl, nm_r (up_n epl (by omega) (bs_nb (by omega))) (ih p (upd en p (nI k)) (by omega) (by omega) hbp (fun j a b => ?_) (fun j a b g => ?_))⟩⟩
        · have : j ≠ p := fun w => by rw [w, hbp] at b; omega
          rw [pk_un this]; exact h1 j a b
        · by_cases w : j = p
          · rw [w, pk_us]
          · rw [pk_un w]
            refine h2 j ?_ b g
            rcases Nat.lt_or_ge j q with v | v
            · have f := tr_be_spec (c := c) (D := D) (i := j) (by omega)
              have := f.2.2.1 q v (by omega)
              have := hpa.2.2 j (by omega) v
              omega
            · exact v
theorem tx_onward (W : tr_TW c r D nm) (L : tr_LK c D r a_first a_next a_parent) {post : Int32 → SX → Prop} {k : Nat} (hk : k < c) (hpl : ∀ j, j ≤ k → a_place (r j) = nI j)
    (he : ∀ j, j < k → tr_be c D j ≤ k → a_end j = nI (tr_be c D j - 1))
    (hp : ∀ en', (∀ j, j ≤ k → tr_be c D j ≤ k + 1 → en' j = nI (tr_be c D j - 1)) → post (if k + 1 < c then nI (r (k + 1)) else -1) (f_root, f_used, f_counted, f_sorted, f_put, a_names, a_values, a_parent, a_first, a_next, a_place, a_nodeAt, en', a_up, a_children, a_above, a_named, a_valueAt, a_kinds, a_vals, a_types, a_behind, a_local, a_length, a_open, a_table, a_results, a_known, a_along, a_stack, a_match, a_priority, a_out, a_on, a_matched, a_chosen, a_waiting, a_depths, a_outputs)) : wpX_onward post (f_root, f_used, f_counted, f_sorted, f_put, a_names, a_values, a_parent, a_first, a_next, a_place, a_nodeAt, a_end, a_up, a_children, a_above, a_named, a_valueAt, a_kinds, a_vals, a_types, a_behind, a_local, a_length, a_open, a_table, a_results, a_known, a_along, a_stack, a_match, a_priority, a_out, a_on, a_matched, a_chosen, a_waiting, a_depths, a_outputs) (nI (r k)) (nI k) := by
  have hc := W.1
  have hr := W.2.1
  have hrk := hr k hk
  obtain ⟨b1, b2, b3, b4⟩ := tr_be_spec (D := D) hk
  by_cases z : k + 1 < c ∧ D k < D (k + 1)
  · have ef : a_first (nI (r k)).toNatClampNeg = nI (r (k + 1)) := by
      rw [nI_clamp (by omega), (L k hk).1]
      unfold tr_fc
      rw [if_pos z]; rfl
    have hr1 := hr (k + 1) z.1
    have hp' := hp a_end (fun j a b => ?_)
    · rw [if_pos z.1, ← ef] at hp'
      exact ⟨pk_in (r k) 24 hrk, br_f (by rw [ef]; exact nI_pos (by omega)) ⟨pk_in (r k) 24 hrk, hp'⟩⟩
    · rcases Nat.lt_or_ge (tr_be c D j) (k + 1) with w | w
      · have := (tr_be_spec (c := c) (D := D) (i := j) (by omega)).1
        exact he j (by omega) (by omega)
      · have e : tr_be c D j = k + 1 := by omega
        obtain ⟨f1, f2, f3, f4⟩ := tr_be_spec (c := c) (D := D) (i := j) (by omega)
        rw [e] at f4
        have := f4 z.1
        by_cases v : j = k
        · rw [v] at this; omega
        · have := f3 k (by omega) (by omega); omega
  · have ef : a_first (nI (r k)).toNatClampNeg = -1 := by
      rw [nI_clamp (by omega), (L k hk).1]
      unfold tr_fc
      rw [if_neg z]; rfl
    have epl : a_place (nI (r k)).toNatClampNeg = nI k := by rw [nI_clamp (by omega)]; exact hpl k (by omega)
    have hb : tr_be c D k = k + 1 := by
      apply tr_be_eq
      exact ⟨by omega, by omega, fun j a b => by omega, fun a => by
        have : ¬ D k < D (k + 1) := fun w => z ⟨a, w⟩
        omega⟩
    refine ⟨pk_in (r k) 24 hrk, br_t (by rw [ef]; decide) ⟨pk_in (r k) 24 hrk, pk_in k 24 (by omega) epl, nm_r (up_n epl (by omega) (bs_nb (by omega))) ⟨_, tx_onward_loop W L hk hpl hp k k (upd a_end k (nI k)) (by omega) (by omega) hb (fun j a b => ?_) (fun j a b g => ?_)⟩⟩⟩
    · have : j ≠ k := fun w => by rw [w] at b; omega
      rw [pk_un this]; exact he j (by omega) b
    · have : j = k := by omega
      rw [this, pk_us]
theorem tx_count_loop (W : tr_TW c r D nm) (T : xx_t f_used f_root a_names a_values a_parent a_first a_next c r D nm va) {post : SX → Prop}
    (hp : ∀ pl na en up ch ab nd vv, xx_ct c r D nm va pl na en up ch ab nd vv → post (f_root, f_used, f_counted, f_sorted, f_put, a_names, a_values, a_parent, a_first, a_next, pl, na, en, up, ch, ab, nd, vv, a_kinds, a_vals, a_types, a_behind, a_local, a_length, a_open, a_table, a_results, a_known, a_along, a_stack, a_match, a_priority, a_out, a_on, a_matched, a_chosen, a_waiting, a_depths, a_outputs)) :
    ∀ d k pl na en up ch ab nd vv, k + d = c → xx_ci c r D nm va k pl na en up ch ab nd vv → wX_count_41 post (d + 1) (nI k) (if k < c then nI (r k) else -1) f_root f_used f_counted f_sorted f_put a_names a_values a_parent a_first a_next pl na en up ch ab nd vv a_kinds a_vals a_types a_behind a_local a_length a_open a_table a_results a_known a_along a_stack a_match a_priority a_out a_on a_matched a_chosen a_waiting a_depths a_outputs := by
  have hc := W.1
  have hr := W.2.1
  have L := T.2.2.2.1
  intro d
  induction d with
  | zero =>
    intro k pl na en up ch ab nd vv hk I
    have e : k = c := by omega
    subst e
    rw [if_neg (by omega)]
    refine br_t (by decide) (hp pl na en up ch ab nd vv ⟨fun i hi => ?_, I.2⟩)
    obtain ⟨i1, i2, i3, i4, i5, i6, i7⟩ := I.1 i hi
    exact ⟨i1, i2, i3 (tr_be_spec (D := D) hi).2.1, i4, i5, i6, i7⟩
  | succ d ih =>
    intro k pl na en up ch ab nd vv hk I
    have hkc : k < c := by omega
    have hrk := hr k hkc
    have hnm := W.2.2.2.2 k hkc
    obtain ⟨I1, I2⟩ := I
    rw [if_pos hkc]
    have enm : a_names (nI (r k)).toNatClampNeg = nI (nm k) := by rw [nI_clamp (by omega)]; exact (T.2.2.1 k hkc).1
    have evv : a_values (nI (r k)).toNatClampNeg = va k := by rw [nI_clamp (by omega)]; exact (T.2.2.1 k hkc).2
    have hne : ∀ j, j < k → r j ≠ r k := fun j hj e => by have := W.2.2.1 j k (by omega) hkc e; omega
    -- the end of a step
    have fin : ∀ up' ch' ab' : Nat → Int32, (∀ i, i < k + 1 → up' i = tr_nd id (tr_pr D i) ∧ ch' i = bs_fs (k + 1) (fun k => decide (tr_pr D k = some i)) ∧ ab' i = bs_fs c (fun k => decide (k < i ∧ i < tr_be c D k))) →
        wX_count_141 post (wX_count_41 post (d + 1)) (nI k) (nI (r k)) f_root f_used f_counted f_sorted f_put a_names a_values a_parent a_first a_next (upd pl (r k) (nI k)) (upd na k (nI (r k))) en up' ch' ab' nd vv a_kinds a_vals a_types a_behind a_local a_length a_open a_table a_results a_known a_along a_stack a_match a_priority a_out a_on a_matched a_chosen a_waiting a_depths a_outputs := by
      intro up' ch' ab' hs
      have e1 : nd (a_names (nI (r k)).toNatClampNeg).toNatClampNeg ||| bs_oh k = bs_fs (k + 1) (fun j => decide (nm k = 6) || decide (nm j = nm k)) := by
        rw [enm, nI_clamp (by omega), I2 (nm k) (by omega), bs_fs_s (by omega), if_pos (by simp)]
      refine ⟨pk_in (r k) 24 hrk, pk_in (nm k) 7 (by omega) enm, pk_in (nm k) 7 (by omega) enm, nm_r (up_n enm (by omega) e1) ?_⟩
      have e2 : upd nd (nm k) (bs_fs (k + 1) (fun j => decide (nm k = 6) || decide (nm j = nm k))) 6 ||| bs_oh k = bs_fs (k + 1) (fun j => decide ((6 : Nat) = 6) || decide (nm j = 6)) := by
        rw [pk_un (by omega), I2 6 (by omega), bs_fs_s (by omega), if_pos (by simp)]
      refine nm_r (e' := upd (upd nd (nm k) (bs_fs (k + 1) (fun j => decide (nm k = 6) || decide (nm j = nm k)))) 6 (bs_fs (k + 1) (fun j => decide ((6 : Nat) = 6) || decide (nm j = 6)))) (congrArg (upd _ 6) e2) ?_
      refine ⟨pk_in (r k) 24 hrk, pk_in k 24 (by omega), nm_r (up_cl (by omega) evv) ?_⟩
      have hpl : ∀ j, j ≤ k → upd pl (r k) (nI k) (r j) = nI j := by
        intro j hj
        by_cases e : j = k
        · rw [e, pk_us]
        · rw [pk_un (hne j (by omega))]; exact (I1 j (by omega)).1
      refine tx_onward W L hkc hpl (fun j a b => (I1 j a).2.2.1 b) (fun en' hen => nm_r (nI_1 k) (ih (k + 1) _ _ en' up' ch' ab' _ _ (by omega) ⟨fun i hi => ?_, fun a ha => ?_⟩))
      · obtain ⟨s1, s2, s3⟩ := hs i hi
        refine ⟨hpl i (by omega), ?_, fun b => hen i (by omega) b, s1, s2, s3, ?_⟩
        · by_cases e : i = k
          · rw [e, pk_us]
          · rw [pk_un e]; exact (I1 i (by omega)).2.1
        · by_cases e : i = k
          · rw [e, pk_us]
          · rw [pk_un e]; exact (I1 i (by omega)).2.2.2.2.2.2
      · by_cases e6 : a = 6
        · subst e6; rw [pk_us]
        · rw [pk_un e6]
          by_cases en : a = nm k
          · subst en; rw [pk_us]
          · rw [pk_un en, I2 a ha, bs_fs_s (by omega), if_neg]
            have : ¬ nm k = a := fun z => en z.symm
            simp [e6, this]
    have hnarz : nI 0 = 0 := nI_0
    refine pk_lt (r k) 0 (fun z => by omega) (fun _ => ⟨pk_in (r k) 24 hrk, nm_r (up_cl (by omega) (bs_nb (by omega))) ⟨pk_in k 24 (by omega), nm_r (up_cl (by omega) (bs_nb (by omega))) ⟨pk_in (r k) 24 hrk, ?_⟩⟩⟩)
    rcases Nat.eq_zero_or_pos k with k0 | k0
    · subst k0
      have ep : a_parent (nI (r 0)).toNatClampNeg = -1 := by rw [nI_clamp (by omega), (L 0 (by omega)).2.2, tr_pr_0]; rfl
      refine br_f (by rw [ep]; decide) ⟨pk_in 0 24 (by omega), nm_r (up_cl (by omega) bs_nb2) ⟨pk_in 0 24 (by omega), nm_r (up_cl (by omega) rfl) (br_f (by decide) ⟨pk_in 0 24 (by omega), nm_r (up_cl (by omega) rfl) (br_t (by decide) (fin _ _ _ (fun i hi => ?_)))⟩)⟩⟩
      have i0 : i = 0 := by omega
      subst i0
      rw [pk_us, pk_us, pk_us, tr_pr_0]
      refine ⟨rfl, (bs_fs_none (by omega) (fun j hj => ?_)).symm, (bs_fs_none (by omega) (fun j hj => ?_)).symm⟩
      · have : j = 0 := by omega
        subst this
        simp [tr_pr_0]
      · simp
    · obtain ⟨p, e, hpa⟩ := tr_pr_ex W.2.2.2.1 k0 hkc
      obtain ⟨p1, p2, p3⟩ := (tr_Pa_be W.2.2.2.1 hkc).mp hpa
      have hrp := hr p (by omega)
      have ep : a_parent (nI (r k)).toNatClampNeg = nI (r p) := by rw [nI_clamp (by omega), (L k hkc).2.2, e]; rfl
      have epl : upd pl (r k) (nI k) (a_parent (nI (r k)).toNatClampNeg).toNatClampNeg = nI p := by
        rw [ep, nI_clamp (by omega), pk_un (hne p p1)]; exact (I1 p p1).1
      obtain ⟨J1, J2, J3, J4, J5, J6, J7⟩ := I1 p p1
      refine br_t (by rw [ep]; exact nI_pos' (by omega)) ⟨pk_in (r k) 24 hrk, pk_in (r p) 24 hrp ep, ?_⟩
      refine ek_v (P := fun w => wX_count_85 post (wX_count_41 post (d + 1)) (nI k) (nI (r k)) w _ _ _ _ _ _ _ _ _ _ _ _ _ _ _ _ _ _ _ _ _ _ _ _ _ _ _ _ _ _ _ _ _ _ _ _ _ _ _) epl ?_
      refine ⟨pk_in k 24 (by omega), nm_r (up_cl (by omega) (bs_nb (by omega))) ⟨pk_in k 24 (by omega), nm_r (up_cl (by omega) rfl) (br_t (nI_pos' (by omega)) ⟨pk_in p 24 (by omega), ?_⟩)⟩⟩
      have eab : ab (nI p).toNatClampNeg ||| bs_oh p = bs_fs c (fun j => decide (j < k ∧ k < tr_be c D j)) := by
        rw [nI_clamp (by omega), J6]
        apply bs_fs_eq (by omega)
        · exact bs_or_ok (bs_fs_ok (by omega) _) (bs_oh_ok (by omega) (by omega))
        · intro j hj
          rw [b_or, bs_fs_bt (by omega), bs_oh_bt j (by omega)]
          have := tr_above (j := j) W.2.2.2.1 hkc hpa
          by_cases x1 : j < p ∧ p < tr_be c D j
          · have y := this.mpr (Or.inl x1)
            simp [hj, x1, y]
          · by_cases x2 : j = p
            · have y := this.mpr (Or.inr x2)
              simp [x2, p1, p2]
            · have y : ¬ (j < k ∧ k < tr_be c D j) := fun z => (this.mp z).elim x1 x2
              rw [decide_eq_false y, decide_eq_false x1, decide_eq_false x2]; simp
      refine ⟨pk_in k 24 (by omega), nm_r (up_cl (by omega) eab) (br_f (nI_pos (by omega)) ⟨pk_in p 24 (by omega), pk_in p 24 (by omega), ?_⟩)⟩
      have ech : upd ch k 0 (nI p).toNatClampNeg ||| bs_oh k = bs_fs (k + 1) (fun j => decide (tr_pr D j = some p)) := by
        rw [nI_clamp (by omega), pk_un (by omega), J5, bs_fs_s (by omega), if_pos (by simp [e])]
      refine nm_r (up_cl (by omega) ech) (fin _ _ _ (fun i hi => ?_))
      by_cases ik : i = k
      · subst ik
        rw [pk_us, pk_us, pk_un (by omega), pk_us, e]
        refine ⟨rfl, (bs_fs_none (by omega) (fun j hj => ?_)).symm, rfl⟩
        apply decide_eq_false
        intro z
        have := (tr_pr_some z).1
        omega
      · obtain ⟨i1, i2, i3, i4, i5, i6, i7⟩ := I1 i (by omega)
        rw [pk_un ik, pk_un ik]
        refine ⟨i4, ?_, i6⟩
        by_cases ip : i = p
        · rw [ip, pk_us]
        · rw [pk_un ip, pk_un ik, i5, bs_fs_s (by omega), if_neg]
          rw [e]
          intro z
          exact ip (Option.some.inj (of_decide_eq_true z)).symm
theorem tx_count (W : tr_TW c r D nm) (T : xx_t f_used f_root a_names a_values a_parent a_first a_next c r D nm va) {post : SX → Prop}
    (hC : f_counted ≠ 0 → xx_ct c r D nm va a_place a_nodeAt a_end a_up a_children a_above a_named a_valueAt)
    (hp : ∀ (f_counted' : Int32) (a_place' a_nodeAt' a_end' a_up' a_children' a_above' a_named' a_valueAt' : Nat → Int32), f_counted' ≠ 0 → xx_ct c r D nm va a_place' a_nodeAt' a_end' a_up' a_children' a_above' a_named' a_valueAt' → post (f_root, f_used, f_counted', f_sorted, f_put, a_names, a_values, a_parent, a_first, a_next, a_place', a_nodeAt', a_end', a_up', a_children', a_above', a_named', a_valueAt', a_kinds, a_vals, a_types, a_behind, a_local, a_length, a_open, a_table, a_results, a_known, a_along, a_stack, a_match, a_priority, a_out, a_on, a_matched, a_chosen, a_waiting, a_depths, a_outputs)) : wpX_count post (f_root, f_used, f_counted, f_sorted, f_put, a_names, a_values, a_parent, a_first, a_next, a_place, a_nodeAt, a_end, a_up, a_children, a_above, a_named, a_valueAt, a_kinds, a_vals, a_types, a_behind, a_local, a_length, a_open, a_table, a_results, a_known, a_along, a_stack, a_match, a_priority, a_out, a_on, a_matched, a_chosen, a_waiting, a_depths, a_outputs) := by
  have hc := W.1
  by_cases z : f_counted = 0
  · refine br_t z ?_
    have hl : ∀ d k nd, k + d = 7 → (∀ a, a < k → nd a = 0) → wX_count_15 post f_root f_used 1 f_sorted f_put (d + 1) (nI k) a_names a_values a_parent a_first a_next a_place a_nodeAt a_end a_up a_children a_above nd a_valueAt a_kinds a_vals a_types a_behind a_local a_length a_open a_table a_results a_known a_along a_stack a_match a_priority a_out a_on a_matched a_chosen a_waiting a_depths a_outputs := by
      intro d
      induction d with
      | zero =>
        intro k nd hk hz
        refine pk_le 7 k (fun _ => ?_) (fun y => by omega)
        have hh := tx_count_loop (f_counted := 1) (post := post) W T (fun pl na en up ch ab nd vv h => hp 1 pl na en up ch ab nd vv (by decide) h) c 0 a_place a_nodeAt a_end a_up a_children a_above nd a_valueAt (by omega) ⟨fun i hi => by omega, fun a ha => by rw [hz a (by omega)]; rfl⟩
        have er : f_root = if 0 < c then nI (r 0) else -1 := by
          rw [T.2.1]
          by_cases y : c = 0
          · rw [if_pos y, if_neg (by omega)]
          · rw [if_neg y, if_pos (by omega)]
        rw [nI_0, ← er] at hh
        exact ⟨_, hh⟩
      | succ d ih =>
        intro k nd hk hz
        refine pk_le 7 k (fun y => by omega) (fun y => ⟨pk_in k 7 y, nm_r (up_cl (by omega) rfl) (nm_r (nI_1 k) (ih (k + 1) (upd nd k 0) (by omega) (fun a ha => ?_)))⟩)
        by_cases e : a = k
        · rw [e, pk_us]
        · rw [pk_un e]; exact hz a (by omega)
    have h := hl 7 0 a_named (by omega) (fun a ha => by omega)
    rw [nI_0] at h
    exact ⟨_, h⟩
  · exact br_f z (hp _ _ _ _ _ _ _ _ _ z (hC z))
end
end
section
/-! ===== X: intervals, axes ===== -/
theorem tx_iv {post : Int32 → Prop} {l e : Nat} {h : Int32} (hl : l ≤ 24) (he : e ≤ 24) (hh : h = nI e - 1) (hp : post (bs_fs 24 (fun i => decide (l ≤ i ∧ i < e)))) : wpX_interval post (nI l) h := by
  rcases Nat.lt_or_ge l e with z | z
  · obtain ⟨f, rfl⟩ : ∃ f, e = f + 1 := ⟨e - 1, by omega⟩
    rw [nI_pred] at hh
    subst hh
    refine pk_le l f (fun _ => ?_) (fun y => by omega)
    have e1 : bs_oh (f + 1) - bs_oh l = bs_fs 24 (fun i => decide (l ≤ i ∧ i < f + 1)) := by
      apply b_ext
      intro i _
      rw [bs_iv (by omega) (by omega), bs_fs_bt (by omega)]
      by_cases a : l ≤ i ∧ i < f + 1
      · have b : l ≤ i ∧ i ≤ f := by omega
        have d : i < 24 := by omega
        rw [decide_eq_true a, decide_eq_true b, decide_eq_true d]; rfl
      · have b : ¬ (l ≤ i ∧ i ≤ f) := by omega
        rw [decide_eq_false a, decide_eq_false b, Bool.and_false]
    rw [← e1] at hp
    have e2 : (1 : Int32) <<< ((nI f + 1) &&& 31) = bs_oh (f + 1) := by rw [nI_1]; rfl
    show post ((1 : Int32) <<< ((nI f + 1) &&& 31) - bs_oh l)
    rw [e2]; exact hp
  · have e0 : bs_fs 24 (fun i => decide (l ≤ i ∧ i < e)) = 0 := bs_fs_none (by omega) (fun i _ => decide_eq_false (by omega))
    rw [e0] at hp
    refine br_f ?_ hp
    subst hh
    rcases Nat.eq_zero_or_pos e with y | y
    · subst y
      intro w
      have : nI l ≤ -1 := w
      have h0 : (0 : Int32) ≤ nI l := nI_pos' (by omega)
      exact absurd (Int32.le_trans h0 this) (by decide)
    · obtain ⟨f, rfl⟩ : ∃ f, e = f + 1 := ⟨e - 1, by omega⟩
      rw [nI_pred]
      exact nI_ge (by omega) (by omega)
section
variable {post : Int32 → Prop} {c : Nat} {r D nm : Nat → Nat} {va : Nat → Int32}
theorem ax_bits {c : Nat} (hc : c ≤ 24) {P : Nat → Bool} {y : Int32} (h : ∀ i, bt y i = (decide (i < c) && P i)) : y = bs_fs c P := by
  apply b_ext
  intro i _
  rw [h i, bs_fs_bt (by omega)]
theorem tx_axis {f_root f_used f_counted f_sorted f_put : Int32} {a_names a_values a_parent a_first a_next a_place a_nodeAt a_end a_up a_children a_above a_named a_valueAt a_kinds a_vals a_types a_behind a_local a_length a_open a_table a_results a_known a_along a_stack a_match a_priority a_out a_on a_matched a_chosen a_waiting a_depths a_outputs : Nat → Int32} (hc : c ≤ 24) (W : tr_W c D) {a x : Nat} (ha : a ≤ 10) (hx : x < c) (hu : f_used = nI c)
    (CT : xx_ct c r D nm va a_place a_nodeAt a_end a_up a_children a_above a_named a_valueAt) (hp : post (bs_fs c (sm_ax c D a x))) : wpX_axis post (f_root, f_used, f_counted, f_sorted, f_put, a_names, a_values, a_parent, a_first, a_next, a_place, a_nodeAt, a_end, a_up, a_children, a_above, a_named, a_valueAt, a_kinds, a_vals, a_types, a_behind, a_local, a_length, a_open, a_table, a_results, a_known, a_along, a_stack, a_match, a_priority, a_out, a_on, a_matched, a_chosen, a_waiting, a_depths, a_outputs) (nI a) (nI x) := by
  obtain ⟨i1, i2, i3, i4, i5, i6, i7⟩ := CT.1 x hx
  obtain ⟨b1, b2, b3, b4⟩ := tr_be_spec (D := D) hx
  have cx : (nI x).toNatClampNeg = x := nI_clamp (by omega)
  have vx : vp_in (nI x) 24 := pk_in x 24 (by omega)
  have eup : a_up (nI x).toNatClampNeg = tr_nd id (tr_pr D x) := by rw [cx]; exact i4
  have ech : a_children (nI x).toNatClampNeg = bs_fs c (fun k => decide (tr_pr D k = some x)) := by rw [cx]; exact i5
  have eab : a_above (nI x).toNatClampNeg = bs_fs c (fun k => decide (k < x ∧ x < tr_be c D k)) := by rw [cx]; exact i6
  have een : a_end (nI x).toNatClampNeg = nI (tr_be c D x) - 1 := by
    rw [cx, i3]
    obtain ⟨f, hf⟩ : ∃ f, tr_be c D x = f + 1 := ⟨tr_be c D x - 1, by omega⟩
    rw [hf, nI_pred]; rfl
  have hlt : ∀ j y, tr_pr D y = some j → j < y := fun j y h => (tr_pr_some h).1
  have k24 : ∀ sib : Int32, (∀ i, bt sib i = (decide (i < c) && decide (tr_pr D x ≠ none ∧ tr_pr D x = tr_pr D i))) → wX_axis_24 post (nI a) (nI x) sib f_root f_used f_counted f_sorted f_put a_names a_values a_parent a_first a_next a_place a_nodeAt a_end a_up a_children a_above a_named a_valueAt a_kinds a_vals a_types a_behind a_local a_length a_open a_table a_results a_known a_along a_stack a_match a_priority a_out a_on a_matched a_chosen a_waiting a_depths a_outputs := by
    intro sib hs
    refine pk_lt a 0 (fun z => by omega) (fun _ => pk_lt 9 a (fun z => ⟨vx, ?_⟩) (fun _ => pk_eq a 0 (fun e => ?_) (fun n0 => pk_eq a 1 (fun e => ⟨vx, ?_⟩) (fun n1 => pk_eq a 2 (fun e => ⟨vx, ?_⟩) (fun n2 => pk_eq a 3 (fun e => ⟨vx, ?_⟩) (fun n3 => pk_eq a 4 (fun e => ⟨vx, ?_⟩) (fun n4 => pk_eq a 5 (fun e => ?_) (fun n5 => pk_eq a 6 (fun e => ?_) (fun n6 => pk_eq a 7 (fun e => ⟨vx, ?_⟩) (fun n7 => pk_eq a 8 (fun e => ?_) (fun n8 => pk_eq a 9 (fun e => ⟨vx, ?_⟩) (fun n9 => by omega))))))))))))
    · have e10 : a = 10 := by omega
      subst e10
      have ey : a_above (nI x).toNatClampNeg ||| bs_oh x = bs_fs c (sm_ax c D 10 x) := by
        rw [eab]
        apply ax_bits hc
        intro i
        rw [b_or, bs_fs_bt (by omega), bs_oh_bt i (by omega)]
        show _ = (decide (i < c) && decide (i ≤ x ∧ x < tr_be c D i))
        by_cases ix : i = x
        · subst ix
          have : i ≤ i ∧ i < tr_be c D i := ⟨by omega, b1⟩
          simp [hx, b1]
        · by_cases q : i < x ∧ x < tr_be c D i
          · have q' : i ≤ x ∧ x < tr_be c D i := ⟨by omega, q.2⟩
            rw [decide_eq_true q, decide_eq_true q', decide_eq_false ix, Bool.or_false]
          · have q' : ¬ (i ≤ x ∧ x < tr_be c D i) := fun w => q ⟨by omega, w.2⟩
            rw [decide_eq_false q, decide_eq_false q', decide_eq_false ix, Bool.or_false]
      rw [← ey] at hp; exact hp
    · subst e
      have ey : bs_oh x = bs_fs c (sm_ax c D 0 x) := by
        apply ax_bits hc
        intro i
        rw [bs_oh_bt i (by omega)]
        show _ = (decide (i < c) && decide (i = x))
        by_cases ix : i = x
        · subst ix; simp [hx]
        · simp [ix]
      rw [← ey] at hp; exact hp
    · subst e
      have hp : post (bs_fs c (fun k => decide (tr_pr D k = some x))) := hp
      rw [← ech] at hp; exact hp
    · subst e
      cases w : tr_pr D x with
      | none =>
        rw [w] at eup
        refine br_f (by rw [eup]; decide) ?_
        have ey : (0 : Int32) = bs_fs c (sm_ax c D 2 x) := by
          apply ax_bits hc
          intro i
          rw [b_0]
          show _ = (decide (i < c) && decide (tr_pr D x = some i))
          rw [w]; simp
        rw [← ey] at hp; exact hp
      | some p =>
        have hpx := hlt p x w
        rw [w] at eup
        have eup' : a_up (nI x).toNatClampNeg = nI p := eup
        refine br_t (by rw [eup']; exact nI_pos' (by omega)) ⟨vx, ?_⟩
        have ey : bs_oh p = bs_fs c (sm_ax c D 2 x) := by
          apply ax_bits hc
          intro i
          rw [bs_oh_bt i (by omega)]
          show _ = (decide (i < c) && decide (tr_pr D x = some i))
          rw [w]
          by_cases ip : i = p
          · subst ip
            have : i < c := by omega
            simp [this]
          · have : ¬ some p = some i := fun z => ip (Option.some.inj z).symm
            rw [decide_eq_false ip, decide_eq_false this, Bool.and_false]
        rw [← ey] at hp
        show post ((1 : Int32) <<< (a_up (nI x).toNatClampNeg &&& 31))
        rw [eup']; exact hp
    · subst e
      refine ek_v (P := fun w => wpX_interval _ w _) (nI_1 x) (tx_iv (by omega) (by omega) een ?_)
      have ey : bs_fs 24 (fun i => decide (x + 1 ≤ i ∧ i < tr_be c D x)) = bs_fs c (sm_ax c D 3 x) := by
        apply ax_bits hc
        intro i
        rw [bs_fs_bt (by omega)]
        show _ = (decide (i < c) && decide (x < i ∧ i < tr_be c D x))
        by_cases q : x < i ∧ i < tr_be c D x
        · have q' : x + 1 ≤ i ∧ i < tr_be c D x := q
          rw [decide_eq_true q, decide_eq_true q', decide_eq_true (by omega : i < 24), decide_eq_true (by omega : i < c)]
        · have q' : ¬ (x + 1 ≤ i ∧ i < tr_be c D x) := q
          rw [decide_eq_false q, decide_eq_false q', Bool.and_false, Bool.and_false]
      rw [← ey] at hp; exact hp
    · subst e
      have hp : post (bs_fs c (fun k => decide (k < x ∧ x < tr_be c D k))) := hp
      rw [← eab] at hp; exact hp
    · subst e
      refine tx_iv (l := 0) (e := x + 1) (by omega) (by omega) (nI_pred x).symm ?_
      have ey : sib &&& (bs_fs 24 (fun i => decide (0 ≤ i ∧ i < x + 1)) ^^^ (-1)) = bs_fs c (sm_ax c D 5 x) := by
        apply b_ext
        intro i hi
        rw [b_and, b_xor, b_m1 i hi, hs i, bs_fs_bt (by omega), bs_fs_bt (by omega)]
        show _ = (decide (i < c) && decide (x < i ∧ tr_pr D x ≠ none ∧ tr_pr D x = tr_pr D i))
        by_cases l : i < c
        · by_cases q : x < i
          · have q' : ¬ (0 ≤ i ∧ i < x + 1) := by omega
            rw [decide_eq_false q', decide_eq_true l]
            by_cases y : tr_pr D x ≠ none ∧ tr_pr D x = tr_pr D i
            · rw [decide_eq_true y, decide_eq_true (⟨q, y⟩ : x < i ∧ _)]; simp
            · rw [decide_eq_false y, decide_eq_false (fun z : x < i ∧ _ => y z.2)]; simp
          · have q' : 0 ≤ i ∧ i < x + 1 := by omega
            rw [decide_eq_true q', decide_eq_false (fun z : x < i ∧ (tr_pr D x ≠ none ∧ tr_pr D x = tr_pr D i) => q z.1), decide_eq_true (by omega : i < 24)]; simp
        · rw [decide_eq_false l]; simp
      rw [← ey] at hp; exact hp
    · subst e
      refine tx_iv (l := 0) (e := x) (by omega) (by omega) rfl ?_
      have ey : sib &&& bs_fs 24 (fun i => decide (0 ≤ i ∧ i < x)) = bs_fs c (sm_ax c D 6 x) := by
        apply b_ext
        intro i hi
        rw [b_and, hs i, bs_fs_bt (by omega), bs_fs_bt (by omega)]
        show _ = (decide (i < c) && decide (i < x ∧ tr_pr D x ≠ none ∧ tr_pr D x = tr_pr D i))
        by_cases l : i < c
        · by_cases q : i < x
          · have q' : 0 ≤ i ∧ i < x := by omega
            rw [decide_eq_true q', decide_eq_true l, decide_eq_true (by omega : i < 24)]
            by_cases y : tr_pr D x ≠ none ∧ tr_pr D x = tr_pr D i
            · rw [decide_eq_true y, decide_eq_true (⟨q, y⟩ : i < x ∧ _)]; simp
            · rw [decide_eq_false y, decide_eq_false (fun z : i < x ∧ _ => y z.2)]; simp
          · have q' : ¬ (0 ≤ i ∧ i < x) := by omega
            rw [decide_eq_false q', decide_eq_false (fun z : i < x ∧ (tr_pr D x ≠ none ∧ tr_pr D x = tr_pr D i) => q z.1)]; simp
        · rw [decide_eq_false l]; simp
      rw [← ey] at hp; exact hp
    · subst e
      have eu : f_used - 1 = nI c - 1 := by rw [hu]
      have ee : a_end (nI x).toNatClampNeg + 1 = nI (tr_be c D x) := by
        rw [een]
        obtain ⟨f, hf⟩ : ∃ f, tr_be c D x = f + 1 := ⟨tr_be c D x - 1, by omega⟩
        rw [hf, nI_pred, nI_1]
      refine ek_v (P := fun w => wpX_interval _ w _) ee (tx_iv (by omega) (by omega) eu ?_)
      have ey : bs_fs 24 (fun i => decide (tr_be c D x ≤ i ∧ i < c)) = bs_fs c (sm_ax c D 7 x) := by
        apply ax_bits hc
        intro i
        rw [bs_fs_bt (by omega)]
        show _ = (decide (i < c) && decide (tr_be c D x ≤ i))
        by_cases l : i < c
        · by_cases q : tr_be c D x ≤ i
          · rw [decide_eq_true (⟨q, l⟩ : tr_be c D x ≤ i ∧ i < c), decide_eq_true q, decide_eq_true l, decide_eq_true (by omega : i < 24)]
          · rw [decide_eq_false (fun z : tr_be c D x ≤ i ∧ i < c => q z.1), decide_eq_false q, Bool.and_false, Bool.and_false]
        · rw [decide_eq_false (fun z : tr_be c D x ≤ i ∧ i < c => l z.2), decide_eq_false l, Bool.and_false, Bool.false_and]
      rw [← ey] at hp; exact hp
    · subst e
      refine tx_iv (l := 0) (e := x) (by omega) (by omega) rfl ⟨vx, ?_⟩
      have ey : bs_fs 24 (fun i => decide (0 ≤ i ∧ i < x)) &&& (a_above (nI x).toNatClampNeg ^^^ (-1)) = bs_fs c (sm_ax c D 8 x) := by
        rw [eab]
        apply b_ext
        intro i hi
        rw [b_and, b_xor, b_m1 i hi, bs_fs_bt (by omega), bs_fs_bt (by omega), bs_fs_bt (by omega)]
        show _ = (decide (i < c) && decide (i < x ∧ ¬ x < tr_be c D i))
        by_cases q : i < x
        · have q' : 0 ≤ i ∧ i < x := by omega
          rw [decide_eq_true q', decide_eq_true (by omega : i < c), decide_eq_true (by omega : i < 24)]
          by_cases y : x < tr_be c D i
          · rw [decide_eq_true (⟨q, y⟩ : i < x ∧ _), decide_eq_false (fun z : i < x ∧ ¬ x < tr_be c D i => z.2 y)]; rfl
          · rw [decide_eq_false (fun z : i < x ∧ x < tr_be c D i => y z.2), decide_eq_true (⟨q, y⟩ : i < x ∧ ¬ x < tr_be c D i)]; rfl
        · have q' : ¬ (0 ≤ i ∧ i < x) := by omega
          rw [decide_eq_false q', decide_eq_false (fun z : i < x ∧ ¬ x < tr_be c D i => q z.1)]; simp
      rw [← ey] at hp; exact hp
    · subst e
      refine tx_iv (by omega) (by omega) een ?_
      have ey : bs_fs 24 (fun i => decide (x ≤ i ∧ i < tr_be c D x)) = bs_fs c (sm_ax c D 9 x) := by
        apply ax_bits hc
        intro i
        rw [bs_fs_bt (by omega)]
        show _ = (decide (i < c) && decide (x ≤ i ∧ i < tr_be c D x))
        by_cases q : x ≤ i ∧ i < tr_be c D x
        · rw [decide_eq_true q, decide_eq_true (by omega : i < 24), decide_eq_true (by omega : i < c)]
        · rw [decide_eq_false q, Bool.and_false, Bool.and_false]
      rw [← ey] at hp; exact hp
  refine ⟨vx, ?_⟩
  cases w : tr_pr D x with
  | none =>
    rw [w] at eup
    refine br_f (by rw [eup]; decide) (k24 0 (fun i => ?_))
    rw [b_0, w]; simp
  | some p =>
    have hpx := hlt p x w
    rw [w] at eup
    have eup' : a_up (nI x).toNatClampNeg = nI p := eup
    have ecp : a_children (a_up (nI x).toNatClampNeg).toNatClampNeg = bs_fs c (fun k => decide (tr_pr D k = some p)) := by
      rw [eup', nI_clamp (by omega)]; exact (CT.1 p (by omega)).2.2.2.2.1
    refine br_t (by rw [eup']; exact nI_pos' (by omega)) ⟨vx, pk_in p 24 (by omega) eup', k24 _ (fun i => ?_)⟩
    rw [ecp, bs_fs_bt (by omega), w]
    by_cases y : tr_pr D i = some p
    · rw [y]; simp
    · rw [decide_eq_false y, decide_eq_false (fun z : some p ≠ none ∧ some p = tr_pr D i => y z.2.symm)]
end
end
section
/-! ===== X.later, X.tested ===== -/
theorem ex_hop_lt {B : Nat → Nat} (hi : ∀ x, x < B x) {a b x : Nat} (h : a < b) : ex_hop B a x < ex_hop B b x := by
  obtain ⟨d, rfl⟩ : ∃ d, b = a + (d + 1) := ⟨b - a - 1, by omega⟩
  rw [ex_hop_add]
  have := ex_hop_le hi (d + 1) (ex_hop B a x)
  omega
theorem ex_hop_inj {B : Nat → Nat} (hi : ∀ x, x < B x) {a b x : Nat} (h : ex_hop B a x = ex_hop B b x) : a = b := by
  rcases Nat.lt_trichotomy a b with z | z | z
  · have := ex_hop_lt hi (x := x) z; omega
  · exact z
  · have := ex_hop_lt hi (x := x) z; omega
theorem ex_nest {n : Nat} {K : Nat → Nat} {V : Nat → Int32} (E : ex_E n K V) {f : Nat} (hf : f < n) : ∀ d, f + d < ex_B n K V f → ∃ m, ex_hop (ex_B n K V) (m + 1) (f + d) = ex_B n K V f := by
  have hfn := (E.2.2.2.2 f hf).1
  intro d
  induction d with
  | zero => intro _; exact ⟨0, rfl⟩
  | succ d ih =>
    intro h
    obtain ⟨m, hm⟩ := ih (by omega)
    have hB : ex_B n K V (f + d) = ex_hop (ex_B n K V) (ex_ar (K (f + d)) (V (f + d))) (f + d + 1) := ex_B_eq (by omega)
    have hm' : ex_hop (ex_B n K V) m (ex_B n K V (f + d)) = ex_B n K V f := hm
    rw [hB, ← ex_hop_add] at hm'
    rcases Nat.eq_zero_or_pos (ex_ar (K (f + d)) (V (f + d)) + m) with z | z
    · rw [z] at hm'
      have hm' : f + d + 1 = ex_B n K V f := hm'
      omega
    · refine ⟨ex_ar (K (f + d)) (V (f + d)) + m - 1, ?_⟩
      rw [show ex_ar (K (f + d)) (V (f + d)) + m - 1 + 1 = ex_ar (K (f + d)) (V (f + d)) + m by omega]
      exact hm'
theorem ex_top {n : Nat} {K : Nat → Nat} {V : Nat → Int32} (E : ex_E n K V) {f i top : Nat} (hf : f < n) (h1 : f ≤ i) (h2 : i < ex_B n K V f) (ht : ex_hop (ex_B n K V) top (i + 1) = ex_B n K V f) : ex_ar (K i) (V i) ≤ top := by
  have hfn := (E.2.2.2.2 f hf).1
  obtain ⟨d, rfl⟩ : ∃ d, i = f + d := ⟨i - f, by omega⟩
  obtain ⟨m, hm⟩ := ex_nest E hf d h2
  have hB : ex_B n K V (f + d) = ex_hop (ex_B n K V) (ex_ar (K (f + d)) (V (f + d))) (f + d + 1) := ex_B_eq (by omega)
  have hm' : ex_hop (ex_B n K V) m (ex_B n K V (f + d)) = ex_B n K V f := hm
  rw [hB, ← ex_hop_add, ← ht] at hm'
  have := ex_hop_inj (fun x => ex_B_lt x) hm'
  omega
theorem lt_m1 {f : Nat} (h : f < 2 ^ 31) : nI f + (-1) < nI f := by
  rcases Nat.eq_zero_or_pos f with z | z
  · subst z; decide
  · obtain ⟨g, rfl⟩ : ∃ g, f = g + 1 := ⟨f - 1, by omega⟩
    rw [pk_m1]; exact nI_lt (by omega) h
theorem x24 (i x : Nat) : (24 : Int32) * nI i + nI x = nI (24 * i + x) := by
  have : (24 : Int32) = nI 24 := rfl
  rw [this, pk_mul, nI_add]
def xx_sl (o n : Nat) (K : Nat → Nat) (V : Nat → Int32) (kinds vals types behind loc : Nat → Int32) : Prop :=
  ∀ i, i < n → kinds (o + i) = nI (K i) ∧ vals (o + i) = (if K i = 2 ∨ K i = 4 then V i else 0) ∧ types (o + i) = nI (ex_ty (K i)) ∧ behind (o + i) = nI (ex_B n K V i) ∧ loc (o + i) = lb (ex_L n K V i)
def xx_tb (c : Nat) (D nm : Nat → Nat) (va : Nat → Int32) (n : Nat) (K : Nat → Nat) (V : Nat → Int32) (lo : Nat) (tab : Nat → Int32) : Prop :=
  ∀ j, lo ≤ j → j < n → ex_L n K V j = false → ∀ x, x < c → tab (24 * j + x) = sm_ev c D nm va n K V j x 1 1
theorem ex_tokx {k : Nat} {v : Int32} (tok : ex_tok k v) : ex_tok k (if k = 2 ∨ k = 4 then v else 0) := by
  refine ⟨tok.1, fun e => ?_⟩
  rw [if_pos (Or.inl e)]; exact tok.2 e
theorem ex_arx {k : Nat} {v : Int32} : ex_ar k (if k = 2 ∨ k = 4 then v else 0) = ex_ar k v := by
  by_cases e : k = 2
  · rw [if_pos (Or.inl e)]
  · unfold ex_ar; rw [if_neg e, if_neg e]
section
variable {c : Nat} {D nm : Nat → Nat} {va : Nat → Int32} {n : Nat} {K : Nat → Nat} {V : Nat → Int32} {o : Nat} {f_root f_used f_counted f_sorted f_put : Int32} {a_names a_values a_parent a_first a_next a_place a_nodeAt a_end a_up a_children a_above a_named a_valueAt a_kinds a_vals a_types a_behind a_local a_length a_open a_table a_results a_known a_along a_stack a_match a_priority a_out a_on a_matched a_chosen a_waiting a_depths a_outputs : Nat → Int32}
theorem tx_later_loop (hc : c ≤ 24) (E : ex_E n K V) (ho : o + n ≤ 360) (S : xx_sl o n K V a_kinds a_vals a_types a_behind a_local) (hv : ∀ i, i < c → a_valueAt i = va i)
    {f x : Nat} {ps la : Int32} (hf : f < n) (hx : x < c) (hT : xx_tb c D nm va n K V f a_table) {post : Int32 → SX → Prop} (hp : ∀ st, post (sm_ev c D nm va n K V f x ps la) (f_root, f_used, f_counted, f_sorted, f_put, a_names, a_values, a_parent, a_first, a_next, a_place, a_nodeAt, a_end, a_up, a_children, a_above, a_named, a_valueAt, a_kinds, a_vals, a_types, a_behind, a_local, a_length, a_open, a_table, a_results, a_known, a_along, st, a_match, a_priority, a_out, a_on, a_matched, a_chosen, a_waiting, a_depths, a_outputs)) :
    ∀ d t top st, t = f + d → t ≤ ex_B n K V f → (∀ j, j < top → st (top - 1 - j) = sm_ev c D nm va n K V (ex_hop (ex_B n K V) j t) x ps la ∧ ex_hop (ex_B n K V) j t < ex_B n K V f) → ex_hop (ex_B n K V) top t = ex_B n K V f →
      wX_later_15 post (nI o) (nI f) (nI x) ps la f_root f_used f_counted f_sorted f_put (d + 1) (nI top) (nI t + (-1)) a_names a_values a_parent a_first a_next a_place a_nodeAt a_end a_up a_children a_above a_named a_valueAt a_kinds a_vals a_types a_behind a_local a_length a_open a_table a_results a_known a_along st a_match a_priority a_out a_on a_matched a_chosen a_waiting a_depths a_outputs := by
  have hn := E.2.1
  have hfn := (E.2.2.2.2 f hf).1
  have hBl := fun x => ex_B_lt (n := n) (K := K) (V := V) x
  intro d
  induction d with
  | zero =>
    intro t top st ht hte hO hN
    have e : t = f := by omega
    subst e
    refine br_t (lt_m1 (by omega)) ?_
    have htop : top = 1 := ex_hop_inj hBl (x := t) hN
    subst htop
    have := (hO 0 (by omega)).1
    have this : st 0 = sm_ev c D nm va n K V t x ps la := this
    have hp' := hp st
    rw [← this] at hp'
    exact hp'
  | succ d ih =>
    intro t top st ht hte hO hN
    obtain ⟨i, rfl⟩ : ∃ i, t = i + 1 := ⟨t - 1, by omega⟩
    rw [pk_m1]
    have hi : i < n := by omega
    obtain ⟨s1, s2, s3, s4, s5⟩ := S i hi
    have tok := E.2.2.2.1 i hi
    obtain ⟨o1, o2, o3⟩ := E.2.2.2.2 i hi
    have hB : ex_B n K V i = ex_hop (ex_B n K V) (ex_ar (K i) (V i)) (i + 1) := ex_B_eq hi
    have har := ex_top E hf (by omega) (by omega) hN
    have htl : top ≤ 40 := by
      have := ex_hop_le hBl top (i + 1)
      omega
    have eoi : nI o + nI i = nI (o + i) := nI_add o i
    have voi : vp_in (nI o + nI i) 360 := pk_in (o + i) 360 (by omega) eoi
    have ek : a_kinds (nI o + nI i).toNatClampNeg = nI (K i) := by rw [cl_n eoi (by omega)]; exact s1
    have ev : a_vals (nI o + nI i).toNatClampNeg = if K i = 2 ∨ K i = 4 then V i else 0 := by rw [cl_n eoi (by omega)]; exact s2
    have el : a_local (nI o + nI i).toNatClampNeg = lb (ex_L n K V i) := by rw [cl_n eoi (by omega)]; exact s5
    refine pk_lt i f (fun z => by omega) (fun _ => ⟨voi, nm_r ek ⟨voi, ek_v (P := fun w => wpX_arity _ (nI (K i)) w) ev (tx_arity (ex_tokx tok) ?_)⟩⟩)
    rw [ex_arx]
    have fin : ∀ v : Int32, v = sm_ev c D nm va n K V i x ps la → wX_later_192 post (wX_later_15 post (nI o) (nI f) (nI x) ps la f_root f_used f_counted f_sorted f_put (d + 1)) (nI o) (nI f) (nI x) ps la (nI top) (nI i) (nI (ex_ar (K i) (V i))) v f_root f_used f_counted f_sorted f_put a_names a_values a_parent a_first a_next a_place a_nodeAt a_end a_up a_children a_above a_named a_valueAt a_kinds a_vals a_types a_behind a_local a_length a_open a_table a_results a_known a_along st a_match a_priority a_out a_on a_matched a_chosen a_waiting a_depths a_outputs := by
      intro v hv'
      refine nm_r (pk_sub har) (nm_r (nI_1 _) ⟨pk_in (top - ex_ar (K i) (V i)) 42 (by omega), nm_r (up_cl (by omega) hv') (nm_e (ih i (top - ex_ar (K i) (V i) + 1) _ (by omega) (by omega) (fun j hj => ?_) ?_))⟩)
      · cases j with
        | zero =>
          rw [show top - ex_ar (K i) (V i) + 1 - 1 - 0 = top - ex_ar (K i) (V i) by omega, pk_us]
          exact ⟨rfl, by show i < _; omega⟩
        | succ j =>
          rw [pk_un (by omega), show top - ex_ar (K i) (V i) + 1 - 1 - (j + 1) = top - 1 - (ex_ar (K i) (V i) + j) by omega]
          have := hO (ex_ar (K i) (V i) + j) (by omega)
          rw [ex_hop_add, ← hB] at this
          exact this
      · show ex_hop (ex_B n K V) (top - ex_ar (K i) (V i)) (ex_B n K V i) = _
        rw [hB, ← ex_hop_add, show ex_ar (K i) (V i) + (top - ex_ar (K i) (V i)) = top by omega]; exact hN
    have evF := sm_ev_eq (c := c) (D := D) (nm := nm) (va := va) (n := n) (K := K) (V := V) hi x ps la
    have hcs := ex_ar_cases tok
    refine pk_eq (K i) 5 (fun e5 => br_t (by rw [e5]; rfl) (fin ps ?_)) (fun n5 => pk_eq (K i) 6 (fun e6 => br_f (fun z => by rw [e6] at z; exact absurd z (by decide)) (fin la ?_)) (fun n6 => ⟨voi, ?_⟩) (hx := rfl) (ha := by have := tok.1; omega)) (ha := by have := tok.1; omega)
    · rw [evF]; unfold sm_F; simp [e5]
    · rw [evF]; unfold sm_F; simp [e6]
    · cases hl : ex_L n K V i with
      | false =>
        rw [hl] at el
        refine br_t el ⟨pk_in (24 * i + x) 960 (by omega) (x24 i x), nm_r (e' := sm_ev c D nm va n K V i x ps la) ?_ (fin _ rfl)⟩
        show a_table ((24 : Int32) * nI i + nI x).toNatClampNeg = _
        rw [cl_n (x24 i x) (by omega), hT i (by omega) hi hl x hx]
        exact sm_ev_loc _ i (Nat.le_refl _) hi E hl x 1 1 ps la
      | true =>
        rw [hl] at el
        have k10 : 10 ≤ K i := by
          rw [ex_L_eq hi] at hl
          rcases Nat.lt_or_ge (K i) 10 with z | z
          · have : ¬ 10 ≤ K i := by omega
            simp [n5, n6, this] at hl
          · exact z
        have k17 := tok.1
        have a1 : 1 ≤ ex_ar (K i) (V i) := by omega
        have hi1 : i + 1 < n := o2 0 (by omega)
        obtain ⟨q1, q2, q3, q4, q5⟩ := S (i + 1) hi1
        have eoi1 : nI o + nI (i + 1) = nI (o + (i + 1)) := nI_add o (i + 1)
        have voi1 : vp_in (nI o + nI (i + 1)) 360 := pk_in (o + (i + 1)) 360 (by omega) eoi1
        have eb1 : a_behind (nI o + nI (i + 1)).toNatClampNeg = nI (ex_B n K V (i + 1)) := by rw [cl_n eoi1 (by omega)]; exact q4
        have et1 : a_types (nI o + nI (i + 1)).toNatClampNeg = nI (ex_ty (K (i + 1))) := by rw [cl_n eoi1 (by omega)]; exact q3
        have es1 : nI top - 1 = nI (top - 1) := pk_sub (b := 1) (by omega)
        have est1 : st (nI top - 1).toNatClampNeg = sm_ev c D nm va n K V (i + 1) x ps la := by
          rw [cl_n es1 (by omega)]
          have := (hO 0 (by omega)).1
          rw [show top - 1 - 0 = top - 1 by omega] at this
          exact this
        have hty1 := ex_ty_le (K (i + 1))
        have okp : ex_ty (K (i + 1)) = 0 → bs_ok c (sm_ev c D nm va n K V (i + 1) x ps la) := fun z => sm_ev_ok hc (by omega) _ (i + 1) (Nat.le_refl _) hi1 E z x hx ps la
        refine br_f (by rw [el]; decide) (nm_r (nI_1 i) ⟨voi1, nm_r eb1 ⟨pk_in (top - 1) 42 (by omega) es1, voi1, ?_⟩⟩)
        have jn : ∀ (z0 z1 z2 z3 : Int32) (tq : Nat) (q : Int32), z0 = nI tq → tq ≤ 2 → (tq = 0 → bs_ok c q) → z1 = q → z2 = nI (ex_ty (K (i + 1))) → z3 = sm_ev c D nm va n K V (i + 1) x ps la →
            sm_jn va (K i) (sm_ev c D nm va n K V (i + 1) x ps la) (ex_ty (K (i + 1))) q tq = sm_ev c D nm va n K V i x ps la →
            wX_later_187 post (wX_later_15 post (nI o) (nI f) (nI x) ps la f_root f_used f_counted f_sorted f_put (d + 1)) (nI o) (nI f) (nI x) ps la (nI top) (nI i) (nI (ex_ar (K i) (V i))) z0 z1 z2 z3 (nI (K i)) f_root f_used f_counted f_sorted f_put a_names a_values a_parent a_first a_next a_place a_nodeAt a_end a_up a_children a_above a_named a_valueAt a_kinds a_vals a_types a_behind a_local a_length a_open a_table a_results a_known a_along st a_match a_priority a_out a_on a_matched a_chosen a_waiting a_depths a_outputs := by
          intro z0 z1 z2 z3 tq q e0 htq hq e1 e2 e3 hj
          subst e0 e1 e2 e3
          unfold wX_later_187
          refine tx_join (u := (f_root, f_used, f_counted, f_sorted, f_put, a_names, a_values, a_parent, a_first, a_next, a_place, a_nodeAt, a_end, a_up, a_children, a_above, a_named, a_valueAt, a_kinds, a_vals, a_types, a_behind, a_local, a_length, a_open, a_table, a_results, a_known, a_along, st, a_match, a_priority, a_out, a_on, a_matched, a_chosen, a_waiting, a_depths, a_outputs)) (c := c) (va := va) hv hc (by omega) hty1 htq okp hq (fun z1 z2 => by omega) (fin _ hj)
        refine pk_le (ex_ar (K i) (V i)) 1 (fun z => ?_) (fun z => ?_)
        · refine pk_le (ex_ar (K i) (V i)) 1 (fun _ => jn _ _ _ _ 1 0 rfl (by omega) (fun w => by omega) rfl et1 est1 ?_) (fun y => by omega)
          rw [evF]
          unfold sm_F
          rw [if_neg (by omega), if_neg (by omega), if_neg (by omega), if_neg (by omega), if_neg (by omega), if_neg (by omega), if_neg (by omega), if_neg (by omega)]
        · have a2 : ex_ar (K i) (V i) = 2 := by omega
          have hi2 : ex_B n K V (i + 1) < n := o2 1 (by omega)
          obtain ⟨w1, w2, w3, w4, w5⟩ := S _ hi2
          have es2 : nI top - 2 = nI (top - 2) := pk_sub (b := 2) (by omega)
          have est2 : st (nI top - 2).toNatClampNeg = sm_ev c D nm va n K V (ex_B n K V (i + 1)) x ps la := by
            rw [cl_n es2 (by omega)]
            have := (hO 1 (by omega)).1
            rw [show top - 1 - 1 = top - 2 by omega] at this
            exact this
          have eoi2 : nI o + nI (ex_B n K V (i + 1)) = nI (o + ex_B n K V (i + 1)) := nI_add o _
          have et2 : a_types (nI o + nI (ex_B n K V (i + 1))).toNatClampNeg = nI (ex_ty (K (ex_B n K V (i + 1)))) := by rw [cl_n eoi2 (by omega)]; exact w3
          refine ⟨pk_in (top - 2) 42 (by omega) es2, pk_le (ex_ar (K i) (V i)) 1 (fun y => by omega) (fun y => ⟨pk_in _ 360 (by omega) eoi2, jn _ _ _ _ (ex_ty (K (ex_B n K V (i + 1)))) (sm_ev c D nm va n K V (ex_B n K V (i + 1)) x ps la) et2 (ex_ty_le _) (fun w => sm_ev_ok hc (by omega) _ _ (Nat.le_refl _) hi2 E w x hx ps la) est2 et1 est1 ?_⟩)⟩
          rw [evF]
          unfold sm_F
          rw [if_neg (by omega), if_neg (by omega), if_neg (by omega), if_neg (by omega), if_neg (by omega), if_neg (by omega), if_pos a2, if_pos a2]
theorem tx_later (hc : c ≤ 24) (E : ex_E n K V) (ho : o + n ≤ 360) (S : xx_sl o n K V a_kinds a_vals a_types a_behind a_local) (hv : ∀ i, i < c → a_valueAt i = va i)
    {f x : Nat} {ps la : Int32} (hf : f < n) (hx : x < c) (hT : xx_tb c D nm va n K V f a_table) {post : Int32 → SX → Prop} (hp : ∀ st, post (sm_ev c D nm va n K V f x ps la) (f_root, f_used, f_counted, f_sorted, f_put, a_names, a_values, a_parent, a_first, a_next, a_place, a_nodeAt, a_end, a_up, a_children, a_above, a_named, a_valueAt, a_kinds, a_vals, a_types, a_behind, a_local, a_length, a_open, a_table, a_results, a_known, a_along, st, a_match, a_priority, a_out, a_on, a_matched, a_chosen, a_waiting, a_depths, a_outputs)) :
    wpX_later post (f_root, f_used, f_counted, f_sorted, f_put, a_names, a_values, a_parent, a_first, a_next, a_place, a_nodeAt, a_end, a_up, a_children, a_above, a_named, a_valueAt, a_kinds, a_vals, a_types, a_behind, a_local, a_length, a_open, a_table, a_results, a_known, a_along, a_stack, a_match, a_priority, a_out, a_on, a_matched, a_chosen, a_waiting, a_depths, a_outputs) (nI o) (nI f) (nI x) ps la := by
  have hn := E.2.1
  have hfn := (E.2.2.2.2 f hf).1
  have hl := ex_B_lt (n := n) (K := K) (V := V) f
  have e1 : nI o + nI f = nI (o + f) := nI_add o f
  have eb : a_behind (nI o + nI f).toNatClampNeg - 1 = nI (ex_B n K V f) + (-1) := by
    rw [cl_n e1 (by omega), (S f hf).2.2.2.1, Int32.sub_eq_add_neg]
  have h := tx_later_loop (o := o) hc E ho S hv hf hx hT hp (ex_B n K V f - f) (ex_B n K V f) 0 a_stack (by omega) (by omega) (fun j hj => by omega) rfl
  rw [nI_0] at h
  exact ⟨pk_in (o + f) 360 (by omega) e1, nm_r eb ⟨_, h⟩⟩
def sm_h (c : Nat) (D nm : Nat → Nat) (va : Nat → Int32) (n : Nat) (K : Nat → Nat) (V : Nat → Int32) (t : Nat) (last : Int32) : Nat → Int32 → Bool := fun k ps => sm_hold (ex_ty (K t)) (sm_ev c D nm va n K V t k ps last) ps
theorem tx_tested_loop (hc : c ≤ 24) (E : ex_E n K V) (ho : o + n ≤ 360) (S : xx_sl o n K V a_kinds a_vals a_types a_behind a_local) (hv : ∀ i, i < c → a_valueAt i = va i)
    {t : Nat} {last : Int32} {tu : Bool} (ht : t < n) (hT : xx_tb c D nm va n K V t a_table) {post : Int32 → SX → Prop} {s : Int32} (hp : ∀ st, post s (f_root, f_used, f_counted, f_sorted, f_put, a_names, a_values, a_parent, a_first, a_next, a_place, a_nodeAt, a_end, a_up, a_children, a_above, a_named, a_valueAt, a_kinds, a_vals, a_types, a_behind, a_local, a_length, a_open, a_table, a_results, a_known, a_along, st, a_match, a_priority, a_out, a_on, a_matched, a_chosen, a_waiting, a_depths, a_outputs)) :
    ∀ (L : List Nat) (j : Nat) (acc : Int32) (st : Nat → Int32), (if tu = true then L.Pairwise (· > ·) else L.Pairwise (· < ·)) → (∀ k, k ∈ L → k < c) → s = acc ||| bs_bo (sm_sift (sm_h c D nm va n K V t last) L j) →
      wX_tested_34 post (nI o) (nI t) (lb tu) (lb (decide (ex_ty (K t) = 1))) last (L.length + 1) acc (nI j) (bs_bo L) f_root f_used f_counted f_sorted f_put a_names a_values a_parent a_first a_next a_place a_nodeAt a_end a_up a_children a_above a_named a_valueAt a_kinds a_vals a_types a_behind a_local a_length a_open a_table a_results a_known a_along st a_match a_priority a_out a_on a_matched a_chosen a_waiting a_depths a_outputs := by
  have hn := E.2.1
  intro L
  induction L with
  | nil =>
    intro j acc st _ _ hs
    have e : acc = s := by
      rw [hs]
      show acc = acc ||| 0
      rw [Int32.or_zero]
    rw [e]
    exact br_t rfl (hp st)
  | cons k L ih =>
    intro j acc st ho2 hb hs
    have hk := hb k (List.mem_cons_self ..)
    have hb24 : ∀ q, q ∈ k :: L → q < 24 := fun q hq => by have := hb q hq; omega
    have hbL : ∀ q, q ∈ L → q < c := fun q hq => hb q (List.mem_cons_of_mem _ hq)
    have hoL : if tu = true then L.Pairwise (· > ·) else L.Pairwise (· < ·) := by
      cases tu
      · exact (List.pairwise_cons.mp ho2).2
      · exact (List.pairwise_cons.mp ho2).2
    have eot : nI o + nI t = nI (o + t) := nI_add o t
    have vot : vp_in (nI o + nI t) 360 := pk_in (o + t) 360 (by omega) eot
    have el : a_local (nI o + nI t).toNatClampNeg = lb (ex_L n K V t) := by rw [cl_n eot (by omega)]; exact (S t ht).2.2.2.2
    have hor : ∀ a b d : Int32, (a ||| b) ||| d = a ||| (b ||| d) := Int32.or_assoc
    -- after the value of the test is known
    have k111 : ∀ (z : Int32) (st' : Nat → Int32), z = sm_ev c D nm va n K V t k (nI (j + 1)) last → wX_tested_111 post (wX_tested_34 post (nI o) (nI t) (lb tu) (lb (decide (ex_ty (K t) = 1))) last (L.length + 1)) (nI o) (nI t) (lb tu) (lb (decide (ex_ty (K t) = 1))) acc last (nI (j + 1)) (bs_bo L) (nI k) z f_root f_used f_counted f_sorted f_put a_names a_values a_parent a_first a_next a_place a_nodeAt a_end a_up a_children a_above a_named a_valueAt a_kinds a_vals a_types a_behind a_local a_length a_open a_table a_results a_known a_along st' a_match a_priority a_out a_on a_matched a_chosen a_waiting a_depths a_outputs := by
      intro z st' hz
      have hin : sm_h c D nm va n K V t last k (nI (j + 1)) = true → wX_tested_34 post (nI o) (nI t) (lb tu) (lb (decide (ex_ty (K t) = 1))) last (L.length + 1) (acc ||| bs_oh k) (nI (j + 1)) (bs_bo L) f_root f_used f_counted f_sorted f_put a_names a_values a_parent a_first a_next a_place a_nodeAt a_end a_up a_children a_above a_named a_valueAt a_kinds a_vals a_types a_behind a_local a_length a_open a_table a_results a_known a_along st' a_match a_priority a_out a_on a_matched a_chosen a_waiting a_depths a_outputs := by
        intro w
        refine ih (j + 1) _ st' hoL hbL ?_
        rw [hs, sm_sift, if_pos w, bs_bo, hor]
      have hout : sm_h c D nm va n K V t last k (nI (j + 1)) = false → wX_tested_34 post (nI o) (nI t) (lb tu) (lb (decide (ex_ty (K t) = 1))) last (L.length + 1) acc (nI (j + 1)) (bs_bo L) f_root f_used f_counted f_sorted f_put a_names a_values a_parent a_first a_next a_place a_nodeAt a_end a_up a_children a_above a_named a_valueAt a_kinds a_vals a_types a_behind a_local a_length a_open a_table a_results a_known a_along st' a_match a_priority a_out a_on a_matched a_chosen a_waiting a_depths a_outputs := by
        intro w
        refine ih (j + 1) _ st' hoL hbL ?_
        rw [hs, sm_sift, if_neg (by rw [w]; decide)]
      unfold sm_h sm_hold at hin hout
      rw [← hz] at hin hout
      by_cases y : ex_ty (K t) = 1
      · rw [decide_eq_true y] at hin hout ⊢
        rw [if_pos y] at hin hout
        refine br_f (by decide) ?_
        by_cases w : z = nI (j + 1)
        · exact br_t w (nm_e (hin (decide_eq_true w)))
        · exact br_f w (hout (decide_eq_false w))
      · rw [decide_eq_false y] at hin hout ⊢
        rw [if_neg y] at hin hout
        refine br_t rfl ?_
        by_cases w : z = 0
        · exact br_t w (hout (decide_eq_false (fun q => q w)))
        · exact br_f w (nm_e (hin (decide_eq_true w)))
    have k57 : bs_bo (k :: L) &&& (bs_oh k ^^^ (-1)) = bs_bo L → wX_tested_57 post (wX_tested_34 post (nI o) (nI t) (lb tu) (lb (decide (ex_ty (K t) = 1))) last (L.length + 1)) (nI o) (nI t) (lb tu) (lb (decide (ex_ty (K t) = 1))) acc last (nI j) (bs_bo (k :: L)) (nI k) f_root f_used f_counted f_sorted f_put a_names a_values a_parent a_first a_next a_place a_nodeAt a_end a_up a_children a_above a_named a_valueAt a_kinds a_vals a_types a_behind a_local a_length a_open a_table a_results a_known a_along st a_match a_priority a_out a_on a_matched a_chosen a_waiting a_depths a_outputs := by
      intro hcl
      refine nm_r hcl (nm_r (nI_1 j) ⟨vot, ?_⟩)
      cases hl : ex_L n K V t with
      | false =>
        rw [hl] at el
        refine br_t el ⟨pk_in (24 * t + k) 960 (by omega) (x24 t k), k111 _ st ?_⟩
        show a_table ((24 : Int32) * nI t + nI k).toNatClampNeg = _
        rw [cl_n (x24 t k) (by omega), hT t (by omega) ht hl k hk]
        exact sm_ev_loc _ t (Nat.le_refl _) ht E hl k 1 1 _ _
      | true =>
        rw [hl] at el
        exact br_f (by rw [el]; decide) (tx_later hc E ho S hv ht hk hT (fun st' => k111 _ st' rfl))
    cases tu with
    | false =>
      obtain ⟨a1, a2, a3, a4⟩ := bs_asc ho2 hb24
      exact br_f a1 (br_t rfl (a4 _ (k57 a3)))
    | true =>
      obtain ⟨a1, a2, a3⟩ := bs_dsc ho2 hb24
      exact br_f a1 (br_f (by decide) (a3 _ (k57 a2)))
theorem sm_ord_pw (tu : Bool) (s : Int32) : if tu = true then (sm_ord tu s).Pairwise (· > ·) else (sm_ord tu s).Pairwise (· < ·) := by
  cases tu
  · exact bs_els_asc s
  · exact List.pairwise_reverse.mpr (bs_els_asc s)
theorem bs_bo_ord {tu : Bool} {s : Int32} (hs : bs_ok c s) (hc : c ≤ 24) : bs_bo (sm_ord tu s) = s := by
  apply b_ext
  intro i _
  rw [bs_bo_bt (fun k hk => by have := (bs_els_mem.mp (sm_ord_mem.mp hk)).1; omega)]
  by_cases e : bt s i = true
  · rw [e]; exact decide_eq_true (sm_ord_mem.mpr (bs_els_mem.mpr ⟨by have := hs i e; omega, e⟩))
  · rw [ts_nt e]; exact decide_eq_false (fun z => e (bs_els_mem.mp (sm_ord_mem.mp z)).2)
theorem tx_tested (hc : c ≤ 24) (E : ex_E n K V) (ho : o + n ≤ 360) (S : xx_sl o n K V a_kinds a_vals a_types a_behind a_local) (hv : ∀ i, i < c → a_valueAt i = va i)
    {t : Nat} {tu : Bool} {s : Int32} (ht : t < n) (hT : xx_tb c D nm va n K V t a_table) (hs : bs_ok c s) {post : Int32 → SX → Prop} (hp : ∀ st, post (sm_test (sm_ev c D nm va n K V) K tu t s) (f_root, f_used, f_counted, f_sorted, f_put, a_names, a_values, a_parent, a_first, a_next, a_place, a_nodeAt, a_end, a_up, a_children, a_above, a_named, a_valueAt, a_kinds, a_vals, a_types, a_behind, a_local, a_length, a_open, a_table, a_results, a_known, a_along, st, a_match, a_priority, a_out, a_on, a_matched, a_chosen, a_waiting, a_depths, a_outputs)) :
    wpX_tested post (f_root, f_used, f_counted, f_sorted, f_put, a_names, a_values, a_parent, a_first, a_next, a_place, a_nodeAt, a_end, a_up, a_children, a_above, a_named, a_valueAt, a_kinds, a_vals, a_types, a_behind, a_local, a_length, a_open, a_table, a_results, a_known, a_along, a_stack, a_match, a_priority, a_out, a_on, a_matched, a_chosen, a_waiting, a_depths, a_outputs) (nI o) (nI t) s (lb tu) := by
  have hn := E.2.1
  have eot : nI o + nI t = nI (o + t) := nI_add o t
  have et : a_types (nI o + nI t).toNatClampNeg = nI (ex_ty (K t)) := by rw [cl_n eot (by omega)]; exact (S t ht).2.2.1
  have hty := ex_ty_le (K t)
  have go : ∀ z : Int32, z = lb (decide (ex_ty (K t) = 1)) → wX_tested_17 post (nI o) (nI t) s (lb tu) z f_root f_used f_counted f_sorted f_put a_names a_values a_parent a_first a_next a_place a_nodeAt a_end a_up a_children a_above a_named a_valueAt a_kinds a_vals a_types a_behind a_local a_length a_open a_table a_results a_known a_along a_stack a_match a_priority a_out a_on a_matched a_chosen a_waiting a_depths a_outputs := by
    intro z hz
    subst hz
    unfold wX_tested_17
    refine tx_bits hc hs ?_
    have h := tx_tested_loop hc E ho S hv (last := nI (bs_els s).length) (tu := tu) ht hT hp (sm_ord tu s) 0 0 a_stack (sm_ord_pw tu s) (fun k hk => bs_ok_els hs (sm_ord_mem.mp hk)) (by rw [Int32.zero_or]; rfl)
    rw [nI_0, bs_bo_ord hs hc] at h
    exact ⟨_, h⟩
  exact ⟨pk_in (o + t) 360 (by omega) eot, pk_eq (ex_ty (K t)) 1 (fun z => go 1 (by rw [decide_eq_true z]; rfl)) (fun z => go 0 (by rw [decide_eq_false z]; rfl)) et⟩
end
end
section
/-! ===== X.step, X.fill, X.learn ===== -/
section
variable {c : Nat} {r D nm : Nat → Nat} {va : Nat → Int32} {n : Nat} {K : Nat → Nat} {V : Nat → Int32} {o : Nat} {f_root f_used f_counted f_sorted f_put : Int32} {a_names a_values a_parent a_first a_next a_place a_nodeAt a_end a_up a_children a_above a_named a_valueAt a_kinds a_vals a_types a_behind a_local a_length a_open a_table a_results a_known a_along a_stack a_match a_priority a_out a_on a_matched a_chosen a_waiting a_depths a_outputs : Nat → Int32}
theorem xx_tb_mono {lo hi : Nat} {tab : Nat → Int32} (h : xx_tb c D nm va n K V lo tab) (hl : lo ≤ hi) : xx_tb c D nm va n K V hi tab := fun j a b d x hx => h j (by omega) b d x hx
theorem tx_step67 (hc : c ≤ 24) (E : ex_E n K V) (ho : o + n ≤ 360) (S : xx_sl o n K V a_kinds a_vals a_types a_behind a_local) (hv : ∀ i, i < c → a_valueAt i = va i)
    {i x w : Nat} (hx : x < c) (hw : w < 384) (hT : xx_tb c D nm va n K V (i + 1) a_table) {post : SX → Prop} {J17 : Int32 → Int32 → Int32 → Int32 → Int32 → Int32 → (Nat → Int32) → (Nat → Int32) → (Nat → Int32) → (Nat → Int32) → (Nat → Int32) → (Nat → Int32) → (Nat → Int32) → (Nat → Int32) → (Nat → Int32) → (Nat → Int32) → (Nat → Int32) → (Nat → Int32) → (Nat → Int32) → (Nat → Int32) → (Nat → Int32) → (Nat → Int32) → (Nat → Int32) → (Nat → Int32) → (Nat → Int32) → (Nat → Int32) → (Nat → Int32) → (Nat → Int32) → (Nat → Int32) → (Nat → Int32) → (Nat → Int32) → (Nat → Int32) → (Nat → Int32) → (Nat → Int32) → (Nat → Int32) → (Nat → Int32) → (Nat → Int32) → (Nat → Int32) → (Nat → Int32) → (Nat → Int32) → Prop} {al : Nat → Int32} :
    ∀ m t s st, i < t → (∀ j, j < m → ex_hop (ex_B n K V) j t < n) → bs_ok c s → m ≤ 2 → (∀ st', J17 (nI (x + 1)) f_root f_used f_counted f_sorted f_put a_names a_values a_parent a_first a_next a_place a_nodeAt a_end a_up a_children a_above a_named a_valueAt a_kinds a_vals a_types a_behind a_local a_length a_open a_table a_results a_known (upd al x (sm_tests (sm_ev c D nm va n K V) K (ex_B n K V) (sm_tu w) m t s)) st' a_match a_priority a_out a_on a_matched a_chosen a_waiting a_depths a_outputs) →
      wX_step_67 post J17 (nI o) (nI i) (nI w) (nI (i + 1)) (nI x) (m + 1) s (nI t) (nI m) f_root f_used f_counted f_sorted f_put a_names a_values a_parent a_first a_next a_place a_nodeAt a_end a_up a_children a_above a_named a_valueAt a_kinds a_vals a_types a_behind a_local a_length a_open a_table a_results a_known al st a_match a_priority a_out a_on a_matched a_chosen a_waiting a_depths a_outputs := by
  have hn := E.2.1
  have hBl := fun x => ex_B_lt (n := n) (K := K) (V := V) x
  intro m
  induction m with
  | zero =>
    intro t s st _ _ _ _ hJ
    exact pk_le 0 0 (fun _ => ⟨pk_in x 24 (by omega), nm_r (up_cl (by omega) rfl) (nm_r (nI_1 x) (hJ st))⟩) (fun z => by omega)
  | succ m ih =>
    intro t s st hit hh hs hm2 hJ
    have ht : t < n := hh 0 (by omega)
    have e1 : nI w &&& 1 = nI (w % 2) := pk_andN (by omega) 1 (by decide)
    have e15 : nI w &&& 15 = nI (w % 16) := pk_andN (by omega) 4 (by decide)
    have eot : nI o + nI t = nI (o + t) := nI_add o t
    have eb : a_behind (nI o + nI t).toNatClampNeg = nI (ex_B n K V t) := by rw [cl_n eot (by omega)]; exact (S t ht).2.2.2.1
    have go : ∀ z0 : Int32, z0 = lb (sm_tu w) → wX_step_96 post J17 (wX_step_67 post J17 (nI o) (nI i) (nI w) (nI (i + 1)) (nI x) (m + 1)) (nI o) (nI i) (nI w) (nI (i + 1)) (nI x) (nI t) (nI (m + 1)) z0 s (nI t) (nI o) f_root f_used f_counted f_sorted f_put a_names a_values a_parent a_first a_next a_place a_nodeAt a_end a_up a_children a_above a_named a_valueAt a_kinds a_vals a_types a_behind a_local a_length a_open a_table a_results a_known al st a_match a_priority a_out a_on a_matched a_chosen a_waiting a_depths a_outputs := by
      intro z0 hz
      subst hz
      unfold wX_step_96
      refine tx_tested hc E ho S hv ht (xx_tb_mono hT (by omega)) hs (fun st' => ?_)
      refine ⟨pk_in (o + t) 360 (by omega) eot, nm_r eb (nm_r (pk_m1 m) (ih (ex_B n K V t) _ st' (by have := hBl t; omega) (fun j hj => ?_) (sm_test_ok hc hs) (by omega) hJ))⟩
      exact hh (j + 1) (by omega)
    refine pk_le (m + 1) 0 (fun z => by omega) (fun _ => pk_eq (w % 2) 0 (fun y => pk_le (w % 16) 0 (fun q => go 0 ?_) (fun q => go 1 ?_) e15) (fun y => go 0 ?_) e1)
    · unfold sm_tu; rw [decide_eq_false (by omega)]; rfl
    · unfold sm_tu; rw [decide_eq_true (by omega)]; rfl
    · unfold sm_tu; rw [decide_eq_false (by omega)]; rfl
theorem tx_step163 (hc : c ≤ 24) {i x : Nat} (hx : x < c) (hi : i < 40) {post : SX → Prop} {al : Nat → Int32} (hal : ∀ k, k < c → a_along k = al k) {J : Int32 → (Nat → Int32) → (Nat → Int32) → (Nat → Int32) → (Nat → Int32) → (Nat → Int32) → (Nat → Int32) → (Nat → Int32) → (Nat → Int32) → (Nat → Int32) → (Nat → Int32) → (Nat → Int32) → (Nat → Int32) → (Nat → Int32) → (Nat → Int32) → (Nat → Int32) → (Nat → Int32) → (Nat → Int32) → (Nat → Int32) → (Nat → Int32) → (Nat → Int32) → (Nat → Int32) → (Nat → Int32) → (Nat → Int32) → (Nat → Int32) → (Nat → Int32) → (Nat → Int32) → (Nat → Int32) → (Nat → Int32) → (Nat → Int32) → (Nat → Int32) → (Nat → Int32) → (Nat → Int32) → (Nat → Int32) → (Nat → Int32) → Prop} {v : Int32} (hJ : J (nI (x + 1)) a_names a_values a_parent a_first a_next a_place a_nodeAt a_end a_up a_children a_above a_named a_valueAt a_kinds a_vals a_types a_behind a_local a_length a_open (upd a_table (24 * i + x) v) a_results a_known a_along a_stack a_match a_priority a_out a_on a_matched a_chosen a_waiting a_depths a_outputs) :
    ∀ (L : List Nat) (acc : Int32), L.Pairwise (· < ·) → (∀ k, k ∈ L → k < c) → v = acc ||| sm_or al L → wX_step_163 post J (nI i) (nI (i + 1)) (nI x) f_root f_used f_counted f_sorted f_put a_names a_values a_parent a_first a_next a_place a_nodeAt a_end a_up a_children a_above a_named a_valueAt a_kinds a_vals a_types a_behind a_local a_length a_open a_table a_results a_known a_along a_stack a_match a_priority a_out a_on a_matched a_chosen a_waiting a_depths a_outputs (L.length + 1) acc (bs_bo L) := by
  intro L
  induction L with
  | nil =>
    intro acc _ _ hs
    have e : acc = v := by
      rw [hs]
      show acc = acc ||| 0
      rw [Int32.or_zero]
    exact br_t rfl ⟨pk_in (24 * i + x) 960 (by omega) (x24 i x), nm_r (up_n (x24 i x) (by omega) e) (nm_r (nI_1 x) hJ)⟩
  | cons k L ih =>
    intro acc ha hb hs
    have hk := hb k (List.mem_cons_self ..)
    obtain ⟨a1, a2, a3, a4⟩ := bs_asc ha (fun j hj => by have := hb j hj; omega)
    have ek : acc ||| a_along (nI k).toNatClampNeg = acc ||| al k := by rw [nI_clamp (by omega), hal k hk]
    refine br_f a1 (a4 _ ⟨pk_in k 24 (by omega), nm_r ek (nm_r a2 (ih _ (List.pairwise_cons.mp ha).2 (fun j hj => hb j (List.mem_cons_of_mem _ hj)) ?_))⟩)
    rw [hs]
    show _ = (acc ||| al k) ||| sm_or al L
    rw [Int32.or_assoc]; rfl
theorem tx_step (W : tr_TW c r D nm) (hu : f_used = nI c) (E : ex_E n K V) (ho : o + n ≤ 360) (S : xx_sl o n K V a_kinds a_vals a_types a_behind a_local)
    (CT : xx_ct c r D nm va a_place a_nodeAt a_end a_up a_children a_above a_named a_valueAt)
    {i : Nat} (hi : i < n) (hK2 : K i = 2) (hT : xx_tb c D nm va n K V (i + 1) a_table) {post : SX → Prop} (hp : ∀ tb al st, xx_tb c D nm va n K V i tb → post (f_root, f_used, f_counted, f_sorted, f_put, a_names, a_values, a_parent, a_first, a_next, a_place, a_nodeAt, a_end, a_up, a_children, a_above, a_named, a_valueAt, a_kinds, a_vals, a_types, a_behind, a_local, a_length, a_open, tb, a_results, a_known, al, st, a_match, a_priority, a_out, a_on, a_matched, a_chosen, a_waiting, a_depths, a_outputs)) :
    wpX_step post (f_root, f_used, f_counted, f_sorted, f_put, a_names, a_values, a_parent, a_first, a_next, a_place, a_nodeAt, a_end, a_up, a_children, a_above, a_named, a_valueAt, a_kinds, a_vals, a_types, a_behind, a_local, a_length, a_open, a_table, a_results, a_known, a_along, a_stack, a_match, a_priority, a_out, a_on, a_matched, a_chosen, a_waiting, a_depths, a_outputs) (nI o) (nI i) := by
  have hc := W.1
  have hn := E.2.1
  have hv : ∀ i, i < c → a_valueAt i = va i := fun i hi => (CT.1 i hi).2.2.2.2.2.2
  have hBl := fun x => ex_B_lt (n := n) (K := K) (V := V) x
  have tok := E.2.2.2.1 i hi
  obtain ⟨ew, hw, hw1, hw2⟩ := tok.2 hK2
  obtain ⟨o1, o2, o3⟩ := E.2.2.2.2 i hi
  have har : ex_ar (K i) (V i) = 1 + (V i).toNatClampNeg / 128 := by unfold ex_ar; rw [if_neg (by omega), if_pos hK2]
  rw [har] at o2
  have hi1 : i + 1 < n := o2 0 (by omega)
  have hL1 : ex_L n K V (i + 1) = false := ex_L_set hi1 (o3.1 hK2)
  have eoi : nI o + nI i = nI (o + i) := nI_add o i
  have ev : a_vals (nI o + nI i).toNatClampNeg = nI (V i).toNatClampNeg := by
    rw [cl_n eoi (by omega), (S i hi).2.1, if_pos (Or.inl hK2)]; exact ew
  have evF := fun x => sm_ev_eq (c := c) (D := D) (nm := nm) (va := va) (n := n) (K := K) (V := V) hi x 1 1
  have evi : ∀ x, sm_ev c D nm va n K V i x 1 1 = sm_or (sm_al c D nm (sm_ev c D nm va n K V) K (ex_B n K V) (V i).toNatClampNeg i) (bs_els (sm_ev c D nm va n K V (i + 1) x 1 1)) := by
    intro x
    rw [evF x]
    unfold sm_F
    rw [if_neg (by omega), if_neg (by omega), if_pos hK2]
  generalize hwd : (V i).toNatClampNeg = w at *
  refine ⟨pk_in (o + i) 360 (by omega) eoi, nm_r ev (nm_r (nI_1 i) ?_)⟩
  -- the second loop
  have L2 : ∀ al st, (∀ x, x < c → al x = sm_al c D nm (sm_ev c D nm va n K V) K (ex_B n K V) w i x) → ∀ d j tb, j + d = c → (∀ x, x < j → tb (24 * i + x) = sm_ev c D nm va n K V i x 1 1) → (∀ k, k < 24 * i ∨ 24 * i + 24 ≤ k → tb k = a_table k) →
      wX_step_136 post (nI i) (nI (i + 1)) f_root f_used f_counted f_sorted f_put (d + 1) (nI j) a_names a_values a_parent a_first a_next a_place a_nodeAt a_end a_up a_children a_above a_named a_valueAt a_kinds a_vals a_types a_behind a_local a_length a_open tb a_results a_known al st a_match a_priority a_out a_on a_matched a_chosen a_waiting a_depths a_outputs := by
    intro al st hal d
    induction d with
    | zero =>
      intro j tb hj h1 h2
      refine pk_le c j (fun _ => hp tb al st (fun q a b g x hx => ?_)) (fun z => by omega) hu
      by_cases e : q = i
      · subst e; exact h1 x (by omega)
      · rw [h2 _ (by omega)]; exact hT q (by omega) b g x hx
    | succ d ih =>
      intro j tb hj h1 h2
      have et : tb ((24 : Int32) * nI (i + 1) + nI j).toNatClampNeg = sm_ev c D nm va n K V (i + 1) j 1 1 := by
        rw [cl_n (x24 (i + 1) j) (by omega), h2 _ (by omega)]
        exact hT (i + 1) (by omega) hi1 hL1 j (by omega)
      have okj : bs_ok c (sm_ev c D nm va n K V (i + 1) j 1 1) := sm_ev_ok hc (by omega) _ (i + 1) (Nat.le_refl _) hi1 E (o3.1 hK2) j (by omega) 1 1
      have hj2 := ih (j + 1) (upd tb (24 * i + j) (sm_ev c D nm va n K V i j 1 1)) (by omega) (fun x hx => by
        by_cases e : x = j
        · rw [e, pk_us]
        · rw [pk_un (by omega)]; exact h1 x (by omega)) (fun k hk => by rw [pk_un (by omega)]; exact h2 k hk)
      have h163 := tx_step163 (f_root := f_root) (f_used := f_used) (f_counted := f_counted) (f_sorted := f_sorted) (f_put := f_put) (post := post) hc (i := i) (x := j) (by omega) (by omega) (al := sm_al c D nm (sm_ev c D nm va n K V) K (ex_B n K V) w i) hal (J := wX_step_136 post (nI i) (nI (i + 1)) f_root f_used f_counted f_sorted f_put (d + 1)) hj2 (bs_els (sm_ev c D nm va n K V (i + 1) j 1 1)) 0 (bs_els_asc _) (fun k hk => bs_ok_els okj hk) (by rw [Int32.zero_or, evi j])
      rw [bs_bo_els okj hc] at h163
      refine pk_le c j (fun z => by omega) (fun _ => ⟨pk_in (24 * (i + 1) + j) 960 (by omega) (x24 (i + 1) j), nm_r et ⟨_, h163⟩⟩) hu
  -- the first loop
  have L1 : ∀ d j al st, j + d = c → (∀ x, x < j → al x = sm_al c D nm (sm_ev c D nm va n K V) K (ex_B n K V) w i x) → wX_step_17 post (nI o) (nI i) (nI w) (nI (i + 1)) (d + 1) (nI j) f_root f_used f_counted f_sorted f_put a_names a_values a_parent a_first a_next a_place a_nodeAt a_end a_up a_children a_above a_named a_valueAt a_kinds a_vals a_types a_behind a_local a_length a_open a_table a_results a_known al st a_match a_priority a_out a_on a_matched a_chosen a_waiting a_depths a_outputs := by
    intro d
    induction d with
    | zero =>
      intro j al st hj h1
      refine pk_le c j (fun _ => ⟨c + 1, ?_⟩) (fun z => by omega) hu
      have := L2 al st (fun x hx => h1 x (by omega)) c 0 a_table (by omega) (fun x hx => by omega) (fun k _ => rfl)
      rw [nI_0] at this
      exact this
    | succ d ih =>
      intro j al st hj h1
      refine pk_le c j (fun z => by omega) (fun _ => ?_) hu
      have e15 : nI w &&& 15 = nI (w % 16) := pk_andN (by omega) 4 (by decide)
      have e7 : (nI w >>> ((4 : Int32) &&& 31)) &&& 7 = nI (w / 16 % 8) := by
        rw [pk_shrN (by omega) ((4 : Int32) &&& 31) 4 (by decide)]
        exact pk_andN (by omega) 3 (by decide)
      have e8 : nI w >>> ((7 : Int32) &&& 31) = nI (w / 128) := pk_shrN (by omega) ((7 : Int32) &&& 31) 7 (by decide)
      have eo1 : nI o + nI (i + 1) = nI (o + (i + 1)) := nI_add o (i + 1)
      have eb : a_behind (nI o + nI (i + 1)).toNatClampNeg = nI (ex_B n K V (i + 1)) := by rw [cl_n eo1 (by omega)]; exact (S (i + 1) hi1).2.2.2.1
      refine ek_v (P := fun q => wpX_axis _ _ q _) e15 (tx_axis hc W.2.2.2.1 hw1 (by omega) hu CT ⟨pk_in (w / 16 % 8) 7 (by omega) e7, ?_⟩)
      have eset : bs_fs c (sm_ax c D (w % 16) j) &&& a_named ((nI w >>> ((4 : Int32) &&& 31)) &&& 7).toNatClampNeg = sm_base c D nm w j := by
        rw [cl_n e7 (by omega), CT.2 _ (by omega)]
        show _ = bs_fs c (fun k => sm_ax c D (w % 16) j k && (decide (w / 16 % 8 = 6) || decide (nm k = w / 16 % 8)))
        apply b_ext
        intro q _
        rw [b_and, bs_fs_bt (by omega), bs_fs_bt (by omega), bs_fs_bt (by omega)]
        cases decide (q < c) <;> simp
      refine nm_r eset ⟨pk_in (o + (i + 1)) 360 (by omega) eo1, nm_r eb (nm_r e8 ⟨_, tx_step67 hc E ho S hv (by omega) (by omega) hT (w / 128) (ex_B n K V (i + 1)) _ st (by have := hBl (i + 1); omega) (fun q hq => o2 (q + 1) (by omega)) (sm_base_ok hc) (by omega) (fun st' => ih (j + 1) _ st' (by omega) (fun x hx => ?_))⟩)⟩
      by_cases e : x = j
      · rw [e, pk_us]; rfl
      · rw [pk_un e]; exact h1 x (by omega)
  have := L1 c 0 a_along a_stack (by omega) (fun x hx => by omega)
  rw [nI_0] at this
  exact ⟨_, this⟩
theorem tx_fill (W : tr_TW c r D nm) (hu : f_used = nI c) (E : ex_E n K V) (ho : o + n ≤ 360) (S : xx_sl o n K V a_kinds a_vals a_types a_behind a_local) (hv : ∀ i, i < c → a_valueAt i = va i)
    {i : Nat} (hi : i < n) (hK2 : K i ≠ 2) (hL : ex_L n K V i = false) (hT : xx_tb c D nm va n K V (i + 1) a_table) {post : SX → Prop} (hp : ∀ tb, xx_tb c D nm va n K V i tb → post (f_root, f_used, f_counted, f_sorted, f_put, a_names, a_values, a_parent, a_first, a_next, a_place, a_nodeAt, a_end, a_up, a_children, a_above, a_named, a_valueAt, a_kinds, a_vals, a_types, a_behind, a_local, a_length, a_open, tb, a_results, a_known, a_along, a_stack, a_match, a_priority, a_out, a_on, a_matched, a_chosen, a_waiting, a_depths, a_outputs)) :
    wpX_fill post (f_root, f_used, f_counted, f_sorted, f_put, a_names, a_values, a_parent, a_first, a_next, a_place, a_nodeAt, a_end, a_up, a_children, a_above, a_named, a_valueAt, a_kinds, a_vals, a_types, a_behind, a_local, a_length, a_open, a_table, a_results, a_known, a_along, a_stack, a_match, a_priority, a_out, a_on, a_matched, a_chosen, a_waiting, a_depths, a_outputs) (nI o) (nI i) := by
  have hc := W.1
  have hn := E.2.1
  have hBl := fun x => ex_B_lt (n := n) (K := K) (V := V) x
  have tok := E.2.2.2.1 i hi
  obtain ⟨o1, o2, o3⟩ := E.2.2.2.2 i hi
  obtain ⟨s1, s2, s3, s4, s5⟩ := S i hi
  have k17 := tok.1
  have eoi : nI o + nI i = nI (o + i) := nI_add o i
  have voi : vp_in (nI o + nI i) 360 := pk_in (o + i) 360 (by omega) eoi
  have ek : a_kinds (nI o + nI i).toNatClampNeg = nI (K i) := by rw [cl_n eoi (by omega)]; exact s1
  have tok0 : ex_tok (K i) 0 := ⟨tok.1, fun e => absurd e hK2⟩
  have ar0 : ex_ar (K i) 0 = ex_ar (K i) (V i) := by unfold ex_ar; rw [if_neg hK2, if_neg hK2]
  have hcs := ex_ar_cases tok
  have evF := fun x => sm_ev_eq (c := c) (D := D) (nm := nm) (va := va) (n := n) (K := K) (V := V) hi x 1 1
  have n5 : K i ≠ 5 := fun e => by rw [ex_L_eq hi, e] at hL; simp at hL
  have n6 : K i ≠ 6 := fun e => by rw [ex_L_eq hi, e] at hL; simp at hL
  have L1 : 1 ≤ ex_ar (K i) (V i) → ex_L n K V (i + 1) = false := by
    intro a
    have hi1 : i + 1 < n := o2 0 (by omega)
    rcases Nat.lt_or_ge (K i) 10 with z | z
    · by_cases k3 : K i = 3
      · exact ex_L_set hi1 (o3.2.1 k3).1
      · exact ex_L_set hi1 (o3.2.2.1 (by omega) z)
    · rw [ex_L_eq hi] at hL
      cases q : ex_L n K V (i + 1) with
      | false => rfl
      | true => rw [q] at hL; simp at hL; omega
  have L2 : ex_ar (K i) (V i) = 2 → ex_L n K V (ex_B n K V (i + 1)) = false := by
    intro a
    have hi2 : ex_B n K V (i + 1) < n := o2 1 (by omega)
    rcases Nat.lt_or_ge (K i) 10 with z | z
    · by_cases k3 : K i = 3
      · exact ex_L_set hi2 (o3.2.1 k3).2
      · omega
    · rw [ex_L_eq hi] at hL
      cases q : ex_L n K V (ex_B n K V (i + 1)) with
      | false => rfl
      | true =>
        have n17 : K i ≠ 17 := by omega
        rw [q] at hL; simp [n17] at hL; omega
  have hl2 : ex_ar (K i) (V i) ≤ 2 := by omega
  have ha1 : 1 ≤ ex_ar (K i) (V i) → i + 1 < n := fun a => o2 0 (by omega)
  have ha2 : ex_ar (K i) (V i) = 2 → ex_B n K V (i + 1) < n := fun a => o2 1 (by omega)
  have x7e := fun j => x24 i j
  have eo1 : nI o + nI (i + 1) = nI (o + (i + 1)) := nI_add o (i + 1)
  generalize hA : ex_ar (K i) (V i) = ar at *
  have loop : ∀ b : Int32, (ar = 2 → b = nI (ex_B n K V (i + 1))) → ∀ d j tb, j + d = c → (∀ x, x < j → tb (24 * i + x) = sm_ev c D nm va n K V i x 1 1) → (∀ k, k < 24 * i ∨ 24 * i + 24 ≤ k → tb k = a_table k) →
      wX_fill_45 post (nI o) (nI i) (nI (K i)) (nI ar) (nI (i + 1)) b f_root f_used f_counted f_sorted f_put (d + 1) (nI j) a_names a_values a_parent a_first a_next a_place a_nodeAt a_end a_up a_children a_above a_named a_valueAt a_kinds a_vals a_types a_behind a_local a_length a_open tb a_results a_known a_along a_stack a_match a_priority a_out a_on a_matched a_chosen a_waiting a_depths a_outputs := by
    intro b hb d
    induction d with
    | zero =>
      intro j tb hj h1 h2
      refine pk_le c j (fun _ => hp tb (fun q a b g x hx => ?_)) (fun z => by omega) hu
      by_cases e : q = i
      · subst e; exact h1 x (by omega)
      · rw [h2 _ (by omega)]; exact hT q (by omega) b g x hx
    | succ d ih =>
      intro j tb hj h1 h2
      have next := ih (j + 1) (upd tb (24 * i + j) (sm_ev c D nm va n K V i j 1 1)) (by omega) (fun x hx => by
        by_cases e : x = j
        · rw [e, pk_us]
        · rw [pk_un (by omega)]; exact h1 x (by omega)) (fun k hk => by rw [pk_un (by omega)]; exact h2 k hk)
      have v24 : vp_in ((24 : Int32) * nI i + nI j) 960 := pk_in (24 * i + j) 960 (by omega) (x24 i j)
      have et1 : 1 ≤ ar → tb ((24 : Int32) * nI (i + 1) + nI j).toNatClampNeg = sm_ev c D nm va n K V (i + 1) j 1 1 := by
        intro a
        have := ha1 a
        rw [cl_n (x24 (i + 1) j) (by omega), h2 _ (by omega)]
        exact hT (i + 1) (by omega) (ha1 a) (L1 a) j (by omega)
      have et2 : ar = 2 → tb ((24 : Int32) * b + nI j).toNatClampNeg = sm_ev c D nm va n K V (ex_B n K V (i + 1)) j 1 1 := by
        intro a
        have := ha2 a
        have := hBl (i + 1)
        rw [hb a, cl_n (x24 (ex_B n K V (i + 1)) j) (by omega), h2 _ (by omega)]
        exact hT _ (by omega) (ha2 a) (L2 a) j (by omega)
      have k101 : ∀ x8 z0 : Int32, (1 ≤ ar → x8 = sm_ev c D nm va n K V (i + 1) j 1 1) → (ar = 2 → z0 = sm_ev c D nm va n K V (ex_B n K V (i + 1)) j 1 1) → (ar ≤ 1 → z0 = 0) →
          wX_fill_101 post (wX_fill_45 post (nI o) (nI i) (nI (K i)) (nI ar) (nI (i + 1)) b f_root f_used f_counted f_sorted f_put (d + 1)) (nI o) (nI i) (nI (K i)) (nI ar) (nI (i + 1)) b (nI j) x8 z0 f_root f_used f_counted f_sorted f_put a_names a_values a_parent a_first a_next a_place a_nodeAt a_end a_up a_children a_above a_named a_valueAt a_kinds a_vals a_types a_behind a_local a_length a_open tb a_results a_known a_along a_stack a_match a_priority a_out a_on a_matched a_chosen a_waiting a_depths a_outputs := by
        intro x8 z0 e8 e0 e00
        refine pk_eq (K i) 0 (fun e => ⟨v24, nm_r (up_n (x24 i j) (by omega) ?_) (nm_r (nI_1 j) next)⟩) (fun n0 => pk_eq (K i) 1 (fun e => ⟨v24, nm_r (up_n (x24 i j) (by omega) ?_) (nm_r (nI_1 j) next)⟩) (fun n1 => pk_eq ar 0 (fun e => ⟨voi, v24, nm_r (up_n (x24 i j) (by omega) ?_) (nm_r (nI_1 j) next)⟩) (fun na => ?_)))
        · rw [evF j]; unfold sm_F; rw [if_pos e]; rfl
        · rw [evF j]; unfold sm_F; rw [if_neg n0, if_pos e]
        · have k4 : K i = 4 := by omega
          have : a_vals (nI o + nI i).toNatClampNeg = V i := by rw [cl_n eoi (by omega), s2, if_pos (Or.inr k4)]
          rw [evF j]; unfold sm_F; rw [if_neg n0, if_neg n1, if_neg hK2, if_pos k4]; exact this
        · have a1 : 1 ≤ ar := by omega
          have hi1 := ha1 a1
          have et : a_types (nI o + nI (i + 1)).toNatClampNeg = nI (ex_ty (K (i + 1))) := by rw [cl_n eo1 (by omega)]; exact (S (i + 1) hi1).2.2.1
          have jn : ∀ (z0 z1 z2 z3 : Int32) (tq : Nat) (q : Int32), z0 = nI tq → tq ≤ 2 → (tq = 0 → bs_ok c q) → z1 = q → z2 = nI (ex_ty (K (i + 1))) → z3 = sm_ev c D nm va n K V (i + 1) j 1 1 →
              sm_jn va (K i) (sm_ev c D nm va n K V (i + 1) j 1 1) (ex_ty (K (i + 1))) q tq = sm_ev c D nm va n K V i j 1 1 →
              wX_fill_184 post (wX_fill_45 post (nI o) (nI i) (nI (K i)) (nI ar) (nI (i + 1)) b f_root f_used f_counted f_sorted f_put (d + 1)) (nI o) (nI i) (nI (K i)) (nI ar) (nI (i + 1)) b (nI j) z0 z1 z2 z3 (nI (K i)) ((24 : Int32) * nI i + nI j) f_root f_used f_counted f_sorted f_put a_names a_values a_parent a_first a_next a_place a_nodeAt a_end a_up a_children a_above a_named a_valueAt a_kinds a_vals a_types a_behind a_local a_length a_open tb a_results a_known a_along a_stack a_match a_priority a_out a_on a_matched a_chosen a_waiting a_depths a_outputs := by
            intro z0 z1 z2 z3 tq q e0 htq hq e1 e2 e3 hj'
            subst e0 e1 e2 e3
            unfold wX_fill_184
            refine tx_join (u := (f_root, f_used, f_counted, f_sorted, f_put, a_names, a_values, a_parent, a_first, a_next, a_place, a_nodeAt, a_end, a_up, a_children, a_above, a_named, a_valueAt, a_kinds, a_vals, a_types, a_behind, a_local, a_length, a_open, tb, a_results, a_known, a_along, a_stack, a_match, a_priority, a_out, a_on, a_matched, a_chosen, a_waiting, a_depths, a_outputs)) (c := c) (va := va) hv hc (by omega) (ex_ty_le _) htq (fun z => sm_ev_ok hc (by omega) _ (i + 1) (Nat.le_refl _) hi1 E z j (by omega) 1 1) hq (fun z1 z2 => o3.2.2.1 z1 z2) ⟨v24, nm_r (up_n (x24 i j) (by omega) hj') (nm_r (nI_1 j) next)⟩
          refine ⟨pk_in (o + (i + 1)) 360 (by omega) eo1, pk_le ar 1 (fun z => jn _ _ _ _ 1 0 rfl (by omega) (fun w => by omega) (e00 z) et (e8 a1) ?_) (fun z => ?_)⟩
          · rw [evF j]
            unfold sm_F
            rw [if_neg n0, if_neg n1, if_neg hK2, if_neg (by omega), if_neg n5, if_neg n6, if_neg (by omega), if_neg (by omega)]
          · have a2 : ar = 2 := by omega
            have hi2 := ha2 a2
            have eo2 : nI o + b = nI (o + ex_B n K V (i + 1)) := by rw [hb a2]; exact nI_add o _
            have et2' : a_types (nI o + b).toNatClampNeg = nI (ex_ty (K (ex_B n K V (i + 1)))) := by rw [cl_n eo2 (by omega)]; exact (S _ hi2).2.2.1
            refine ⟨pk_in _ 360 (by omega) eo2, jn _ _ _ _ (ex_ty (K (ex_B n K V (i + 1)))) (sm_ev c D nm va n K V (ex_B n K V (i + 1)) j 1 1) et2' (ex_ty_le _) (fun w => sm_ev_ok hc (by omega) _ _ (Nat.le_refl _) hi2 E w j (by omega) 1 1) (e0 a2) et (e8 a1) ?_⟩
            rw [evF j]
            unfold sm_F
            rw [if_neg n0, if_neg n1, if_neg hK2, if_neg (by omega), if_neg n5, if_neg n6, if_pos (by omega), if_pos (by omega)]
      have k76 : ∀ x8 : Int32, (1 ≤ ar → x8 = sm_ev c D nm va n K V (i + 1) j 1 1) → wX_fill_76 post (wX_fill_45 post (nI o) (nI i) (nI (K i)) (nI ar) (nI (i + 1)) b f_root f_used f_counted f_sorted f_put (d + 1)) (nI o) (nI i) (nI (K i)) (nI ar) (nI (i + 1)) b (nI j) x8 f_root f_used f_counted f_sorted f_put a_names a_values a_parent a_first a_next a_place a_nodeAt a_end a_up a_children a_above a_named a_valueAt a_kinds a_vals a_types a_behind a_local a_length a_open tb a_results a_known a_along a_stack a_match a_priority a_out a_on a_matched a_chosen a_waiting a_depths a_outputs := by
        intro x8 e8
        refine pk_le ar 1 (fun z => k101 x8 0 e8 (fun w => by omega) (fun _ => rfl)) (fun z => ?_)
        have a2 : ar = 2 := by omega
        have hi2 := ha2 a2
        have eb : (24 : Int32) * b + nI j = nI (24 * ex_B n K V (i + 1) + j) := by rw [hb a2]; exact x24 _ _
        exact ⟨pk_in _ 960 (by omega) eb, k101 x8 _ e8 (fun _ => et2 a2) (fun w => by omega)⟩
      refine pk_le c j (fun z => by omega) (fun _ => pk_le ar 0 (fun z => k76 0 (fun w => by omega)) (fun z => ?_)) hu
      have hi1 := ha1 z
      exact ⟨pk_in (24 * (i + 1) + j) 960 (by omega) (x24 (i + 1) j), k76 _ (fun w => et1 w)⟩
  have start : ∀ b : Int32, (ar = 2 → b = nI (ex_B n K V (i + 1))) → ∃ n45, wX_fill_45 post (nI o) (nI i) (nI (K i)) (nI ar) (nI (i + 1)) b f_root f_used f_counted f_sorted f_put n45 0 a_names a_values a_parent a_first a_next a_place a_nodeAt a_end a_up a_children a_above a_named a_valueAt a_kinds a_vals a_types a_behind a_local a_length a_open a_table a_results a_known a_along a_stack a_match a_priority a_out a_on a_matched a_chosen a_waiting a_depths a_outputs := by
    intro b hb
    have := loop b hb c 0 a_table (by omega) (fun x hx => by omega) (fun k _ => rfl)
    rw [nI_0] at this
    exact ⟨_, this⟩
  refine ⟨voi, nm_r ek (tx_arity tok0 ?_)⟩
  rw [ar0]
  refine nm_r (nI_1 i) (pk_le ar 1 (fun z => start 0 (fun w => by omega)) (fun z => ?_))
  have a2 : ar = 2 := by omega
  have hi1 := ha1 (by omega)
  have eb : a_behind (nI o + nI (i + 1)).toNatClampNeg = nI (ex_B n K V (i + 1)) := by rw [cl_n eo1 (by omega)]; exact (S (i + 1) hi1).2.2.2.1
  exact ⟨pk_in (o + (i + 1)) 360 (by omega) eo1, nm_r eb (start _ (fun _ => rfl))⟩
theorem x40 (s : Nat) : (40 : Int32) * nI s = nI (40 * s) := pk_mul 40 s
theorem tx_learn (W : tr_TW c r D nm) (hc0 : 0 < c) (T : xx_t f_used f_root a_names a_values a_parent a_first a_next c r D nm va)
    (hC : f_counted ≠ 0 → xx_ct c r D nm va a_place a_nodeAt a_end a_up a_children a_above a_named a_valueAt)
    {s : Nat} (hs : s < 8) (E : ex_E n K V) (S : xx_sl (40 * s) n K V a_kinds a_vals a_types a_behind a_local) (hln : a_length s = nI n) {R : Nat → Nat → Int32} (hRs : ∀ x, x < c → R s x = sm_ev c D nm va n K V 0 x 1 1)
    (hR : ∀ t, t < 8 → a_known t ≠ 0 → ∀ x, x < c → a_results (24 * t + x) = R t x) {post : SX → Prop}
    (hp : ∀ (f_counted' : Int32) (a_place' a_nodeAt' a_end' a_up' a_children' a_above' a_named' a_valueAt' a_table' a_results' a_known' a_along' a_stack' : Nat → Int32), f_counted' ≠ 0 → xx_ct c r D nm va a_place' a_nodeAt' a_end' a_up' a_children' a_above' a_named' a_valueAt' → a_known' s ≠ 0 → (∀ t, t < 8 → a_known' t ≠ 0 → ∀ x, x < c → a_results' (24 * t + x) = R t x) → post (f_root, f_used, f_counted', f_sorted, f_put, a_names, a_values, a_parent, a_first, a_next, a_place', a_nodeAt', a_end', a_up', a_children', a_above', a_named', a_valueAt', a_kinds, a_vals, a_types, a_behind, a_local, a_length, a_open, a_table', a_results', a_known', a_along', a_stack', a_match, a_priority, a_out, a_on, a_matched, a_chosen, a_waiting, a_depths, a_outputs)) :
    wpX_learn post (f_root, f_used, f_counted, f_sorted, f_put, a_names, a_values, a_parent, a_first, a_next, a_place, a_nodeAt, a_end, a_up, a_children, a_above, a_named, a_valueAt, a_kinds, a_vals, a_types, a_behind, a_local, a_length, a_open, a_table, a_results, a_known, a_along, a_stack, a_match, a_priority, a_out, a_on, a_matched, a_chosen, a_waiting, a_depths, a_outputs) (nI s) := by
  have hc := W.1
  have hn := E.2.1
  have hn0 := E.1
  have hu := T.1
  unfold wpX_learn
  refine tx_count W T hC (fun f_counted' a_place' a_nodeAt' a_end' a_up' a_children' a_above' a_named' a_valueAt' hcn CT => ?_)
  have hv : ∀ i, i < c → a_valueAt' i = va i := fun i hi => (CT.1 i hi).2.2.2.2.2.2
  have cs : (nI s).toNatClampNeg = s := nI_clamp (by omega)
  refine ⟨pk_in s 8 hs, ?_⟩
  by_cases hk : a_known s = 0
  · refine br_t (by rw [cs]; exact hk) ⟨pk_in s 8 hs, nm_r (up_cl (by omega) bs_bool1) (nm_r (x40 s) ⟨pk_in s 9 (by omega), ?_⟩)⟩
    -- results
    have Lr : ∀ tb al, xx_tb c D nm va n K V 0 tb → ∀ d j rs st', j + d = c → (∀ x, x < j → rs (24 * s + x) = R s x) → (∀ k, k < 24 * s ∨ 24 * s + 24 ≤ k → rs k = a_results k) →
        wX_learn_85 post (nI s) (nI (40 * s)) (d + 1) (nI j) f_root f_used f_counted' f_sorted f_put a_names a_values a_parent a_first a_next a_place' a_nodeAt' a_end' a_up' a_children' a_above' a_named' a_valueAt' a_kinds a_vals a_types a_behind a_local a_length a_open tb rs (upd a_known s 1) al st' a_match a_priority a_out a_on a_matched a_chosen a_waiting a_depths a_outputs := by
      intro tb al hT d
      induction d with
      | zero =>
        intro j rs st' hj h1 h2
        refine pk_le c j (fun _ => hp _ _ _ _ _ _ _ _ _ tb rs (upd a_known s 1) al st' hcn CT (by rw [pk_us]; decide) (fun t ht hkt x hx => ?_)) (fun z => by omega) hu
        by_cases e : t = s
        · subst e; exact h1 x (by omega)
        · rw [pk_un e] at hkt
          rw [h2 _ (by omega)]; exact hR t ht hkt x hx
      | succ d ih =>
        intro j rs st' hj h1 h2
        have next := fun st'' => ih (j + 1) (upd rs (24 * s + j) (R s j)) st'' (by omega) (fun x hx => by
          by_cases e : x = j
          · rw [e, pk_us]
          · rw [pk_un (by omega)]; exact h1 x (by omega)) (fun k hk => by rw [pk_un (by omega)]; exact h2 k hk)
        have el : a_local (nI (40 * s)).toNatClampNeg = lb (ex_L n K V 0) := by rw [nI_clamp (by omega)]; exact (S 0 hn0).2.2.2.2
        refine pk_le c j (fun z => by omega) (fun _ => ⟨pk_in (40 * s) 360 (by omega), ?_⟩) hu
        cases hl : ex_L n K V 0 with
        | false =>
          rw [hl] at el
          have et : tb (nI j).toNatClampNeg = R s j := by
            rw [nI_clamp (by omega), hRs j (by omega)]
            have := hT 0 (by omega) hn0 hl j (by omega)
            rw [show 24 * 0 + j = j by omega] at this
            exact this
          exact br_t el ⟨pk_in j 960 (by omega), pk_in (24 * s + j) 192 (by omega) (x24 s j), nm_r (up_n (x24 s j) (by omega) et) (nm_r (nI_1 j) (next st'))⟩
        | true =>
          rw [hl] at el
          refine br_f (by rw [el]; decide) (tx_later (f := 0) (x := j) hc E (by omega) S hv hn0 (by omega) hT (fun st'' => ⟨pk_in (24 * s + j) 192 (by omega) (x24 s j), nm_r (up_n (x24 s j) (by omega) (hRs j (by omega)).symm) (nm_r (nI_1 j) (next st''))⟩))
    have L35 : ∀ t tb al st, t ≤ n → xx_tb c D nm va n K V t tb → wX_learn_35 post (nI s) (nI (40 * s)) (t + 1) (nI t + (-1)) f_root f_used f_counted' f_sorted f_put a_names a_values a_parent a_first a_next a_place' a_nodeAt' a_end' a_up' a_children' a_above' a_named' a_valueAt' a_kinds a_vals a_types a_behind a_local a_length a_open tb a_results (upd a_known s 1) al st a_match a_priority a_out a_on a_matched a_chosen a_waiting a_depths a_outputs := by
      intro t
      induction t with
      | zero =>
        intro tb al st _ hT
        have := Lr tb al hT c 0 a_results st (by omega) (fun x hx => by omega) (fun k _ => rfl)
        rw [nI_0] at this
        exact br_t (show (nI 0 + (-1) : Int32) < 0 by decide) ⟨_, this⟩
      | succ i ih =>
        intro tb al st hi hT
        rw [pk_m1]
        have eoi : nI (40 * s) + nI i = nI (40 * s + i) := nI_add _ i
        have voi : vp_in (nI (40 * s) + nI i) 360 := pk_in (40 * s + i) 360 (by omega) eoi
        have ek : a_kinds (nI (40 * s) + nI i).toNatClampNeg = nI (K i) := by rw [cl_n eoi (by omega)]; exact (S i (by omega)).1
        have el : a_local (nI (40 * s) + nI i).toNatClampNeg = lb (ex_L n K V i) := by rw [cl_n eoi (by omega)]; exact (S i (by omega)).2.2.2.2
        have k17 := (E.2.2.2.1 i (by omega)).1
        refine pk_lt i 0 (fun z => by omega) (fun _ => ⟨voi, pk_eq (K i) 2 (fun e => ?_) (fun e => ⟨voi, ?_⟩) ek⟩)
        · exact tx_step W hu E (by omega) S CT (by omega) e hT (fun tb' al' st' hT' => nm_e (ih tb' al' st' (by omega) hT'))
        · cases hl : ex_L n K V i with
          | false =>
            rw [hl] at el
            exact br_t el (tx_fill W hu E (by omega) S hv (by omega) e hl hT (fun tb' hT' => nm_e (ih tb' al st (by omega) hT')))
          | true =>
            rw [hl] at el
            refine br_f (by rw [el]; decide) (nm_e (ih tb al st (by omega) (fun j a b g x hx => ?_)))
            by_cases q : j = i
            · subst q; rw [hl] at g; exact absurd g (by decide)
            · exact hT j (by omega) b g x hx
    have el : a_length (nI s).toNatClampNeg - 1 = nI n + (-1) := by rw [cs, hln, Int32.sub_eq_add_neg]
    exact nm_r el ⟨_, L35 n a_table a_along a_stack (Nat.le_refl _) (fun j a b => by omega)⟩
  · exact br_f (by rw [cs]; exact hk) (hp _ _ _ _ _ _ _ _ _ _ _ _ _ _ hcn CT hk hR)
end
end
section
/-! ===== sets of places as sets of nodes; Y's functions of sets ===== -/
def sm_im (r : Nat → Nat) (s : Int32) : Int32 := bs_bo ((bs_els s).map r)
section
variable {c : Nat} {r : Nat → Nat}
theorem im_bt (hc : c ≤ 24) (hr : ∀ i, i < c → r i < 24) (hj : tr_inj c r) {s : Int32} (hs : bs_ok c s) {i : Nat} (hi : i < c) : bt (sm_im r s) (r i) = bt s i := by
  unfold sm_im
  rw [bs_bo_bt (fun k hk => by
    obtain ⟨j, a, b⟩ := List.mem_map.mp hk
    have := hr j (bs_ok_els hs a)
    omega)]
  by_cases e : bt s i = true
  · rw [e]; exact decide_eq_true (List.mem_map.mpr ⟨i, bs_els_mem.mpr ⟨by omega, e⟩, rfl⟩)
  · rw [ts_nt e]
    apply decide_eq_false
    intro z
    obtain ⟨j, a, b⟩ := List.mem_map.mp z
    have := hj j i (bs_ok_els hs a) hi b
    subst this
    exact e (bs_els_mem.mp a).2
theorem im_ex (hc : c ≤ 24) (hr : ∀ i, i < c → r i < 24) {s : Int32} (hs : bs_ok c s) {k : Nat} (h : bt (sm_im r s) k = true) : ∃ i, i < c ∧ k = r i ∧ bt s i = true := by
  unfold sm_im at h
  rw [bs_bo_bt (fun k hk => by
    obtain ⟨j, a, b⟩ := List.mem_map.mp hk
    have := hr j (bs_ok_els hs a)
    omega)] at h
  obtain ⟨j, a, b⟩ := List.mem_map.mp (of_decide_eq_true h)
  exact ⟨j, bs_ok_els hs a, b.symm, (bs_els_mem.mp a).2⟩
theorem im_ok (hr : ∀ i, i < c → r i < 24) {s : Int32} (hs : bs_ok c s) : bs_ok 24 (sm_im r s) :=
  bs_bo_ok (fun k hk => by
    obtain ⟨j, a, b⟩ := List.mem_map.mp hk
    have := hr j (bs_ok_els hs a)
    omega) (by omega)
theorem im_0 (hc : c ≤ 24) (hr : ∀ i, i < c → r i < 24) (hj : tr_inj c r) {s : Int32} (hs : bs_ok c s) : sm_im r s = 0 ↔ s = 0 := by
  constructor
  · intro h
    apply bs_ext_ok (c := c) (by omega) hs (bs_0_ok c)
    intro i hi
    rw [← im_bt hc hr hj hs hi, h, b_0, b_0]
  · intro h
    rw [h]
    unfold sm_im
    rw [bs_els_0]; rfl
theorem im_eq (hc : c ≤ 24) (hr : ∀ i, i < c → r i < 24) (hj : tr_inj c r) {s q : Int32} (hs : bs_ok c s) (h1 : ∀ i, i < c → bt q (r i) = bt s i) (h2 : ∀ k, bt q k = true → ∃ i, i < c ∧ k = r i) : q = sm_im r s := by
  apply b_ext
  intro k _
  by_cases e : ∃ i, i < c ∧ k = r i
  · obtain ⟨i, hi, rfl⟩ := e
    rw [h1 i hi, im_bt hc hr hj hs hi]
  · have a : bt q k = false := ts_nt (fun z => e (h2 k z))
    have b : bt (sm_im r s) k = false := ts_nt (fun z => by
      obtain ⟨i, hi, hk, -⟩ := im_ex hc hr hs z
      exact e ⟨i, hi, hk⟩)
    rw [a, b]
theorem im_or (hc : c ≤ 24) (hr : ∀ i, i < c → r i < 24) (hj : tr_inj c r) {s t : Int32} (hs : bs_ok c s) (ht : bs_ok c t) : sm_im r s ||| sm_im r t = sm_im r (s ||| t) := by
  apply im_eq hc hr hj (bs_or_ok hs ht)
  · intro i hi
    rw [b_or, b_or, im_bt hc hr hj hs hi, im_bt hc hr hj ht hi]
  · intro k hk
    rw [b_or] at hk
    rcases (Bool.or_eq_true_iff ..).mp hk with z | z
    · obtain ⟨i, a, b, -⟩ := im_ex hc hr hs z; exact ⟨i, a, b⟩
    · obtain ⟨i, a, b, -⟩ := im_ex hc hr ht z; exact ⟨i, a, b⟩
theorem im_oh (hc : c ≤ 24) (hr : ∀ i, i < c → r i < 24) (hj : tr_inj c r) {x : Nat} (hx : x < c) : bs_oh (r x) = sm_im r (bs_oh x) := by
  have := hr x hx
  apply im_eq hc hr hj (bs_oh_ok hx (by omega))
  · intro i hi
    rw [bs_oh_bt _ (by omega), bs_oh_bt _ (by omega)]
    by_cases e : i = x
    · rw [e]; simp
    · rw [decide_eq_false e, decide_eq_false (fun z => e (hj i x hi hx z))]
  · intro k hk
    rw [bs_oh_bt _ (by omega)] at hk
    exact ⟨x, hx, of_decide_eq_true hk⟩
theorem im_bo (hc : c ≤ 24) (hr : ∀ i, i < c → r i < 24) (hj : tr_inj c r) {L : List Nat} (hL : ∀ k, k ∈ L → k < c) : bs_bo (L.map r) = sm_im r (bs_bo L) := by
  apply im_eq hc hr hj (bs_bo_ok hL (by omega))
  · intro i hi
    rw [bs_bo_bt (fun k hk => by
      obtain ⟨j, a, b⟩ := List.mem_map.mp hk
      have := hr j (hL j a)
      omega), bs_bo_bt (fun k hk => by have := hL k hk; omega)]
    by_cases e : i ∈ L
    · rw [decide_eq_true e]; exact decide_eq_true (List.mem_map.mpr ⟨i, e, rfl⟩)
    · rw [decide_eq_false e]
      apply decide_eq_false
      intro z
      obtain ⟨j, a, b⟩ := List.mem_map.mp z
      have := hj j i (hL j a) hi b
      subst this
      exact e a
  · intro k hk
    rw [bs_bo_bt (fun k hk => by
      obtain ⟨j, a, b⟩ := List.mem_map.mp hk
      have := hr j (hL j a)
      omega)] at hk
    obtain ⟨j, a, b⟩ := List.mem_map.mp (of_decide_eq_true hk)
    exact ⟨j, hL j a, b.symm⟩
end
/-! sums over sets -/
def sw (f : Nat → Bool) (g : Nat → Int32) : Nat → Int32
  | 0 => 0
  | n + 1 => sw f g n + (cond (f n) (g n) 0)
def ls (g : Nat → Int32) : List Nat → Int32
  | [] => 0
  | k :: L => g k + ls g L
theorem sw_congr {f f' : Nat → Bool} {g : Nat → Int32} : ∀ n, (∀ i, i < n → f i = f' i) → sw f g n = sw f' g n
  | 0, _ => rfl
  | n + 1, h => by
    simp only [sw]
    rw [sw_congr n (fun i hi => h i (by omega)), h n (by omega)]
theorem sw_put {f f' : Nat → Bool} {g : Nat → Int32} {k : Nat} (h0 : f k = false) (h : ∀ i, f' i = (f i || decide (i = k))) : ∀ n, k < n → sw f' g n = g k + sw f g n
  | 0, hk => by omega
  | n + 1, hk => by
    simp only [sw]
    rcases Nat.lt_or_ge k n with z | z
    · rw [sw_put h0 h n z, h n, decide_eq_false (by omega), Bool.or_false, Int32.add_assoc]
    · have e : k = n := by omega
      subst e
      rw [sw_congr k (fun i hi => by rw [h i, decide_eq_false (by omega), Bool.or_false]) (f' := f), h k, decide_eq_true rfl, Bool.or_true, h0]
      show sw f g k + g k = g k + (sw f g k + 0)
      rw [Int32.add_zero, Int32.add_comm]
theorem sw_bo {g : Nat → Int32} : ∀ M : List Nat, M.Nodup → (∀ k, k ∈ M → k < 24) → sw (fun i => bt (bs_bo M) i) g 24 = ls g M
  | [], _, _ => by
    have : ∀ n, sw (fun i => bt (bs_bo []) i) g n = 0 := by
      intro n
      induction n with
      | zero => rfl
      | succ n ih =>
        simp only [sw]
        rw [ih, show bt (bs_bo []) n = false from b_0 n]
        exact Int32.add_zero 0
    rw [this]; rfl
  | k :: M, hd, hb => by
    have hd' := List.nodup_cons.mp hd
    have hk := hb k (List.mem_cons_self ..)
    have hM : ∀ j, j ∈ M → j < 24 := fun j hj => hb j (List.mem_cons_of_mem _ hj)
    have h0 : bt (bs_bo M) k = false := by
      rw [bs_bo_bt (fun j hj => by have := hM j hj; omega)]
      exact decide_eq_false hd'.1
    rw [sw_put (f := fun i => bt (bs_bo M) i) (k := k) h0 (fun i => ?_) 24 hk, sw_bo M hd'.2 hM]
    · rfl
    · show bt (bs_oh k ||| bs_bo M) i = _
      rw [b_or, bs_oh_bt i (by omega), Bool.or_comm]
theorem ls_map {g va : Nat → Int32} {r : Nat → Nat} : ∀ L : List Nat, (∀ k, k ∈ L → g (r k) = va k) → ls g (L.map r) = sm_tot va L
  | [], _ => rfl
  | k :: L, h => by
    show g (r k) + ls g (L.map r) = va k + sm_tot va L
    rw [h k (List.mem_cons_self ..), ls_map L (fun j hj => h j (List.mem_cons_of_mem _ hj))]
theorem ls_one : ∀ L : List Nat, ls (fun _ => 1) L = nI L.length
  | [] => rfl
  | k :: L => by
    show (1 : Int32) + ls (fun _ => 1) L = _
    rw [ls_one L]
    exact (nI_add 1 L.length).trans (congrArg nI (by rw [List.length_cons]; omega))
theorem nodup_map {r : Nat → Nat} {c : Nat} (hj : tr_inj c r) : ∀ L : List Nat, L.Pairwise (· < ·) → (∀ k, k ∈ L → k < c) → (L.map r).Nodup
  | [], _, _ => List.Pairwise.nil
  | k :: L, ha, hb => by
    have ha' := List.pairwise_cons.mp ha
    show (r k :: L.map r).Nodup
    refine List.nodup_cons.mpr ⟨fun z => ?_, nodup_map hj L ha'.2 (fun j hj => hb j (List.mem_cons_of_mem _ hj))⟩
    obtain ⟨j, a, b⟩ := List.mem_map.mp z
    have e := hj j k (hb j (List.mem_cons_of_mem _ a)) (hb k (List.mem_cons_self ..)) b
    have := ha'.1 j a
    omega
section
variable {c : Nat} {r D nm : Nat → Nat} {va : Nat → Int32} {post : Int32 → Prop} {g_count g_top g_listed g_outputs : Int32} {b_row b_depth b_name b_value b_moved b_kind b_with b_length b_sets b_fresh b_type b_number b_set b_list b_there b_match b_priority b_out b_on b_todo b_within b_output : Nat → Int32}
theorem ty_counted_loop (x : Int32) : ∀ d k acc, k + d = 24 → post (sw (fun i => bt x i) (fun _ => 1) 24) → acc = sw (fun i => bt x i) (fun _ => 1) k → wY_counted_4 post x g_count g_top g_listed g_outputs b_row b_depth b_name b_value b_moved b_kind b_with b_length b_sets b_fresh b_type b_number b_set b_list b_there b_match b_priority b_out b_on b_todo b_within b_output (d + 1) acc (nI k) := by
  intro d
  induction d with
  | zero =>
    intro k acc hk hp ha
    have e : k = 24 := by omega
    subst e; subst ha
    exact pk_le 24 24 (fun _ => hp) (fun z => by omega)
  | succ d ih =>
    intro k acc hk hp ha
    refine pk_le 24 k (fun z => by omega) (fun _ => nm_r (e' := sw (fun i => bt x i) (fun _ => 1) (k + 1)) ?_ (nm_r (nI_1 k) (ih (k + 1) _ (by omega) hp rfl)))
    rw [bs_tst x (by omega), ha]
    show _ = sw (fun i => bt x i) (fun _ => 1) k + cond (bt x k) 1 0
    cases bt x k <;> rfl
theorem ty_counted (W : tr_TW c r D nm) {s : Int32} (hs : bs_ok c s) (hp : post (nI (bs_els s).length)) : wpY_counted post (g_count, g_top, g_listed, g_outputs, b_row, b_depth, b_name, b_value, b_moved, b_kind, b_with, b_length, b_sets, b_fresh, b_type, b_number, b_set, b_list, b_there, b_match, b_priority, b_out, b_on, b_todo, b_within, b_output) (sm_im r s) := by
  have e : sw (fun i => bt (sm_im r s) i) (fun _ => 1) 24 = nI (bs_els s).length := by
    unfold sm_im
    rw [sw_bo _ (nodup_map W.2.2.1 _ (bs_els_asc s) (fun k hk => bs_ok_els hs hk)) (fun k hk => by
      obtain ⟨j, a, b⟩ := List.mem_map.mp hk
      have := W.2.1 j (bs_ok_els hs a)
      omega), ls_one, List.length_map]
  have h := ty_counted_loop (post := post) (g_count := g_count) (g_top := g_top) (g_listed := g_listed) (g_outputs := g_outputs) (b_row := b_row) (b_depth := b_depth) (b_name := b_name) (b_value := b_value) (b_moved := b_moved) (b_kind := b_kind) (b_with := b_with) (b_length := b_length) (b_sets := b_sets) (b_fresh := b_fresh) (b_type := b_type) (b_number := b_number) (b_set := b_set) (b_list := b_list) (b_there := b_there) (b_match := b_match) (b_priority := b_priority) (b_out := b_out) (b_on := b_on) (b_todo := b_todo) (b_within := b_within) (b_output := b_output) (sm_im r s) 24 0 0 (by omega) (by rw [e]; exact hp) rfl
  rw [nI_0] at h
  exact ⟨_, h⟩
theorem ty_summed_loop (x : Int32) : ∀ d k acc, k + d = 24 → post (sw (fun i => bt x i) b_value 24) → acc = sw (fun i => bt x i) b_value k → wY_summed_4 post x g_count g_top g_listed g_outputs b_row b_depth b_name b_value b_moved b_kind b_with b_length b_sets b_fresh b_type b_number b_set b_list b_there b_match b_priority b_out b_on b_todo b_within b_output (d + 1) acc (nI k) := by
  intro d
  induction d with
  | zero =>
    intro k acc hk hp ha
    have e : k = 24 := by omega
    subst e; subst ha
    exact pk_le 24 24 (fun _ => hp) (fun z => by omega)
  | succ d ih =>
    intro k acc hk hp ha
    refine pk_le 24 k (fun z => by omega) (fun _ => ?_)
    have es : sw (fun i => bt x i) b_value (k + 1) = sw (fun i => bt x i) b_value k + cond (bt x k) (b_value k) 0 := rfl
    by_cases y : bt x k = true
    · rw [y] at es
      refine br_t ((bs_t1 (by omega)).mpr y) ⟨pk_in k 24 (by omega), nm_r (e' := sw (fun i => bt x i) b_value (k + 1)) ?_ (nm_r (nI_1 k) (ih (k + 1) _ (by omega) hp rfl))⟩
      rw [es, ha, nI_clamp (by omega)]; rfl
    · rw [ts_nt y] at es
      refine br_f (fun z => y ((bs_t1 (by omega)).mp z)) (nm_r (nI_1 k) (ih (k + 1) _ (by omega) hp ?_))
      rw [es, ha]
      exact (Int32.add_zero _).symm
theorem ty_summed (W : tr_TW c r D nm) (T : yy_t g_count b_row b_depth b_name b_value c r D nm va) {s : Int32} (hs : bs_ok c s) (hp : post (sm_tot va (bs_els s))) : wpY_summed post (g_count, g_top, g_listed, g_outputs, b_row, b_depth, b_name, b_value, b_moved, b_kind, b_with, b_length, b_sets, b_fresh, b_type, b_number, b_set, b_list, b_there, b_match, b_priority, b_out, b_on, b_todo, b_within, b_output) (sm_im r s) := by
  have e : sw (fun i => bt (sm_im r s) i) b_value 24 = sm_tot va (bs_els s) := by
    unfold sm_im
    rw [sw_bo _ (nodup_map W.2.2.1 _ (bs_els_asc s) (fun k hk => bs_ok_els hs hk)) (fun k hk => by
      obtain ⟨j, a, b⟩ := List.mem_map.mp hk
      have := W.2.1 j (bs_ok_els hs a)
      omega), ls_map (va := va) _ (fun k hk => (T.2 k (bs_ok_els hs hk)).2.2.2)]
  have h := ty_summed_loop (post := post) (g_count := g_count) (g_top := g_top) (g_listed := g_listed) (g_outputs := g_outputs) (b_row := b_row) (b_depth := b_depth) (b_name := b_name) (b_value := b_value) (b_moved := b_moved) (b_kind := b_kind) (b_with := b_with) (b_length := b_length) (b_sets := b_sets) (b_fresh := b_fresh) (b_type := b_type) (b_number := b_number) (b_set := b_set) (b_list := b_list) (b_there := b_there) (b_match := b_match) (b_priority := b_priority) (b_out := b_out) (b_on := b_on) (b_todo := b_todo) (b_within := b_within) (b_output := b_output) (sm_im r s) 24 0 0 (by omega) (by rw [e]; exact hp) rfl
  rw [nI_0] at h
  exact ⟨_, h⟩
theorem sm_vo_first {s : Int32} {j : Nat} (hj : j < 24) (h1 : bt s j = true) (h0 : ∀ i, i < j → bt s i = false) : sm_vo va (bs_els s) = va j := by
  cases e : bs_els s with
  | nil =>
    have : j ∈ bs_els s := bs_els_mem.mpr ⟨hj, h1⟩
    rw [e] at this; simp at this
  | cons k L =>
    have ha := bs_els_asc s
    rw [e] at ha
    have hk : k ∈ bs_els s := by rw [e]; exact List.mem_cons_self ..
    have hjm : j ∈ bs_els s := bs_els_mem.mpr ⟨hj, h1⟩
    rw [e] at hjm
    have : k = j := by
      rcases List.mem_cons.mp hjm with z | z
      · exact z.symm
      · have := (List.pairwise_cons.mp ha).1 j z
        have q := h0 k this
        rw [(bs_els_mem.mp hk).2] at q
        exact absurd q (by decide)
    rw [this]; rfl
theorem sm_vo_none {s : Int32} (hc : c ≤ 24) (hs : bs_ok c s) (h0 : ∀ i, i < c → bt s i = false) : s = 0 := by
  apply bs_ext_ok (c := c) (by omega) hs (bs_0_ok c)
  intro i hi
  rw [h0 i hi, b_0]
theorem ty_firstOf (W : tr_TW c r D nm) (T : yy_t g_count b_row b_depth b_name b_value c r D nm va) {s : Int32} (hs : bs_ok c s) (hp : post (sm_vo va (bs_els s))) : wpY_firstOf post (g_count, g_top, g_listed, g_outputs, b_row, b_depth, b_name, b_value, b_moved, b_kind, b_with, b_length, b_sets, b_fresh, b_type, b_number, b_set, b_list, b_there, b_match, b_priority, b_out, b_on, b_todo, b_within, b_output) (sm_im r s) := by
  have hc := W.1
  have loop : ∀ d j, j + d = c → (∀ i, i < j → bt s i = false) → wY_firstOf_2 post (sm_im r s) g_count g_top g_listed g_outputs b_row b_depth b_name b_value b_moved b_kind b_with b_length b_sets b_fresh b_type b_number b_set b_list b_there b_match b_priority b_out b_on b_todo b_within b_output (d + 1) (nI j) := by
    intro d
    induction d with
    | zero =>
      intro j hj h0
      have e : s = 0 := sm_vo_none hc hs (fun i hi => h0 i (by omega))
      rw [e, bs_els_0] at hp
      exact pk_le c j (fun _ => hp) (fun z => by omega) T.1
    | succ d ih =>
      intro j hj h0
      have hrj := W.2.1 j (by omega)
      obtain ⟨t1, t2, t3, t4⟩ := T.2 j (by omega)
      have er : b_row (nI j).toNatClampNeg = nI (r j) := by rw [nI_clamp (by omega)]; exact t1
      have eb : bt (sm_im r s) (r j) = bt s j := im_bt hc W.2.1 W.2.2.1 hs (by omega)
      have ec : ((sm_im r s) >>> (b_row (nI j).toNatClampNeg &&& 31)) &&& 1 = ((sm_im r s) >>> (nI (r j) &&& 31)) &&& 1 := by rw [er]
      refine pk_le c j (fun z => by omega) (fun _ => ⟨pk_in j 24 (by omega), ?_⟩) T.1
      by_cases y : bt s j = true
      · refine br_t (ec.trans ((bs_t1 (by omega)).mpr (eb.trans y))) ⟨pk_in j 24 (by omega), pk_in (r j) 24 hrj er, ?_⟩
        rw [sm_vo_first (by omega) y h0] at hp
        have ev : b_value (b_row (nI j).toNatClampNeg).toNatClampNeg = va j := by rw [er, nI_clamp (by omega)]; exact t4
        rw [← ev] at hp; exact hp
      · refine br_f (fun z => y (eb.symm.trans ((bs_t1 (by omega)).mp (ec.symm.trans z)))) (nm_r (nI_1 j) (ih (j + 1) (by omega) (fun i hi => ?_)))
        by_cases e : i = j
        · rw [e]; exact ts_nt y
        · exact h0 i (by omega)
  have h := loop c 0 (by omega) (fun i hi => by omega)
  rw [nI_0] at h
  exact ⟨_, h⟩
/-- what a place of Y's stack holds: type t, value p (sets by nodes) -/
def yy_sk (r : Nat → Nat) (type number set : Nat → Int32) (a t : Nat) (p : Int32) : Prop := type a = nI t ∧ (t = 0 → set a = sm_im r p) ∧ (t ≠ 0 → number a = p)
theorem ty_plain (W : tr_TW c r D nm) (T : yy_t g_count b_row b_depth b_name b_value c r D nm va) {a t : Nat} {p : Int32} (ha : a < 48) (ht : t ≤ 2) (hs : t = 0 → bs_ok c p) (K : yy_sk r b_type b_number b_set a t p) (hp : post (sm_pl va t p)) : wpY_plain post (g_count, g_top, g_listed, g_outputs, b_row, b_depth, b_name, b_value, b_moved, b_kind, b_with, b_length, b_sets, b_fresh, b_type, b_number, b_set, b_list, b_there, b_match, b_priority, b_out, b_on, b_todo, b_within, b_output) (nI a) := by
  obtain ⟨k1, k2, k3⟩ := K
  have ca : (nI a).toNatClampNeg = a := nI_clamp (by omega)
  refine ⟨pk_in a 48 ha, pk_eq t 0 (fun e => ⟨pk_in a 48 ha, ?_⟩) (fun e => ⟨pk_in a 48 ha, ?_⟩) (by rw [ca]; exact k1)⟩
  · have es : b_set (nI a).toNatClampNeg = sm_im r p := by rw [ca]; exact k2 e
    refine ek_v (P := fun w => wpY_firstOf _ _ w) es (ty_firstOf W T (hs e) ?_)
    unfold sm_pl at hp
    rw [if_pos e] at hp; exact hp
  · have en : b_number (nI a).toNatClampNeg = p := by rw [ca]; exact k3 e
    unfold sm_pl at hp
    rw [if_neg e, ← en] at hp; exact hp
theorem ty_isTrue (W : tr_TW c r D nm) {a t : Nat} {p : Int32} (ha : a < 48) (ht : t ≤ 2) (hs : t = 0 → bs_ok c p) (K : yy_sk r b_type b_number b_set a t p) (h1 : p ≠ 0 → post 1) (h0 : p = 0 → post 0) : wpY_isTrue post (g_count, g_top, g_listed, g_outputs, b_row, b_depth, b_name, b_value, b_moved, b_kind, b_with, b_length, b_sets, b_fresh, b_type, b_number, b_set, b_list, b_there, b_match, b_priority, b_out, b_on, b_todo, b_within, b_output) (nI a) := by
  obtain ⟨k1, k2, k3⟩ := K
  have ca : (nI a).toNatClampNeg = a := nI_clamp (by omega)
  refine ⟨pk_in a 48 ha, pk_eq t 0 (fun e => ⟨pk_in a 48 ha, ?_⟩) (fun e => ⟨pk_in a 48 ha, ?_⟩) (by rw [ca]; exact k1)⟩
  · have es : b_set (nI a).toNatClampNeg = sm_im r p := by rw [ca]; exact k2 e
    have ez := im_0 W.1 W.2.1 W.2.2.1 (hs e)
    by_cases z : p = 0
    · exact br_t (es.trans (ez.mpr z)) (h0 z)
    · exact br_f (fun w => z (ez.mp (es.symm.trans w))) (h1 z)
  · have en : b_number (nI a).toNatClampNeg = p := by rw [ca]; exact k3 e
    by_cases z : p = 0
    · exact br_t (en.trans z) (h0 z)
    · exact br_f (fun w => z (en.symm.trans w)) (h1 z)
/-- which m of the loop count for a place of the stack, and with which value -/
def yc_on (r : Nat → Nat) (t : Nat) (p : Int32) (m : Nat) : Bool := if t = 0 then bt (sm_im r p) m else decide (m = 0)
def yc_v (value : Nat → Int32) (t : Nat) (p : Int32) (m : Nat) : Int32 := if t = 0 then value m else p
theorem yc_vals (W : tr_TW c r D nm) (T : yy_t g_count b_row b_depth b_name b_value c r D nm va) {t : Nat} {p : Int32} (hs : t = 0 → bs_ok c p) (w : Int32) : w ∈ sm_vals va t p ↔ ∃ m, m < 24 ∧ yc_on r t p m = true ∧ w = yc_v b_value t p m := by
  unfold sm_vals yc_on yc_v
  by_cases e : t = 0
  · rw [if_pos e, List.mem_map]
    constructor
    · rintro ⟨i, a, b⟩
      have hi := bs_ok_els (hs e) a
      refine ⟨r i, W.2.1 i hi, ?_, ?_⟩
      · rw [if_pos e, im_bt W.1 W.2.1 W.2.2.1 (hs e) hi]; exact (bs_els_mem.mp a).2
      · rw [if_pos e, (T.2 i hi).2.2.2]; exact b.symm
    · rintro ⟨m, a, b, d⟩
      rw [if_pos e] at b d
      obtain ⟨i, hi, hm, hb⟩ := im_ex W.1 W.2.1 (hs e) b
      refine ⟨i, bs_els_mem.mpr ⟨by have := W.1; omega, hb⟩, ?_⟩
      rw [d, hm, (T.2 i hi).2.2.2]
  · rw [if_neg e, List.mem_singleton]
    constructor
    · intro z; exact ⟨0, by omega, by rw [if_neg e]; rfl, by rw [if_neg e]; exact z⟩
    · rintro ⟨m, a, b, d⟩; rw [if_neg e] at d; exact d
theorem ty_compare (W : tr_TW c r D nm) (T : yy_t g_count b_row b_depth b_name b_value c r D nm va) {k a b tp tq : Nat} {p q : Int32} (hk : k = 13 ∨ k = 14) (ha : a < 48) (hb : b < 48) (htp : tp ≤ 2) (htq : tq ≤ 2) (hsp : tp = 0 → bs_ok c p) (hsq : tq = 0 → bs_ok c q)
    (Ka : yy_sk r b_type b_number b_set a tp p) (Kb : yy_sk r b_type b_number b_set b tq q) (hp : post (sm_jn va k p tp q tq)) : wpY_compare post (g_count, g_top, g_listed, g_outputs, b_row, b_depth, b_name, b_value, b_moved, b_kind, b_with, b_length, b_sets, b_fresh, b_type, b_number, b_set, b_list, b_there, b_match, b_priority, b_out, b_on, b_todo, b_within, b_output) (nI k) (nI a) (nI b) := by
  have ca : (nI a).toNatClampNeg = a := nI_clamp (by omega)
  have cb : (nI b).toNatClampNeg = b := nI_clamp (by omega)
  obtain ⟨ka1, ka2, ka3⟩ := Ka
  obtain ⟨kb1, kb2, kb3⟩ := Kb
  have rel : ∃ R : Int32 → Int32 → Bool, sm_jn va k p tp q tq = lb ((sm_vals va tp p).any (fun a => (sm_vals va tq q).any (fun b => R a b))) ∧ (∀ (x y : Int32) (A B : Prop), (R x y = true → A) → (R x y = false → B) → ((nI k = 13 → ((y ≤ x → B) ∧ (¬ y ≤ x → A))) ∧ (¬ nI k = 13 → ((x = y → A) ∧ (¬ x = y → B))))) := by
    rcases hk with e | e
    · subst e
      refine ⟨fun a b => decide (a < b), rfl, fun x y A B h1 h0 => br_t rfl ?_⟩
      by_cases z : y ≤ x
      · exact br_t z (h0 (decide_eq_false (Int32.not_lt.mpr z)))
      · exact br_f z (h1 (decide_eq_true (Int32.not_le.mp z)))
    · subst e
      refine ⟨fun a b => decide (a = b), rfl, fun x y A B h1 h0 => br_f (by decide) ?_⟩
      by_cases z : x = y
      · exact br_t z (h1 (decide_eq_true z))
      · exact br_f z (h0 (decide_eq_false z))
  obtain ⟨R, eR, hR⟩ := rel
  rw [eR] at hp
  have yes : ∀ m j, m < 24 → j < 24 → yc_on r tp p m = true → yc_on r tq q j = true → R (yc_v b_value tp p m) (yc_v b_value tq q j) = true → post 1 := by
    intro m j hm hj o1 o2 hr
    have : ((sm_vals va tp p).any (fun a => (sm_vals va tq q).any (fun b => R a b))) = true :=
      List.any_eq_true.mpr ⟨_, (yc_vals W T hsp _).mpr ⟨m, hm, o1, rfl⟩, List.any_eq_true.mpr ⟨_, (yc_vals W T hsq _).mpr ⟨j, hj, o2, rfl⟩, hr⟩⟩
    rw [this] at hp; exact hp
  have no : (∀ m j, m < 24 → j < 24 → yc_on r tp p m = true → yc_on r tq q j = true → R (yc_v b_value tp p m) (yc_v b_value tq q j) = false) → post 0 := by
    intro h
    have : ((sm_vals va tp p).any (fun a => (sm_vals va tq q).any (fun b => R a b))) = false := by
      apply ts_nt
      intro z
      obtain ⟨x, x1, x2⟩ := List.any_eq_true.mp z
      obtain ⟨y, y1, y2⟩ := List.any_eq_true.mp x2
      obtain ⟨m, m1, m2, rfl⟩ := (yc_vals W T hsp _).mp x1
      obtain ⟨j, j1, j2, rfl⟩ := (yc_vals W T hsq _).mp y1
      rw [h m j m1 j1 m2 j2] at y2
      exact absurd y2 (by decide)
    rw [this] at hp; exact hp
  have inner : ∀ (J3 : Int32 → Prop) m, m < 24 → yc_on r tp p m = true → ((∀ j, j < 24 → yc_on r tq q j = true → R (yc_v b_value tp p m) (yc_v b_value tq q j) = false) → J3 (nI (m + 1))) → ∀ d j, j + d = 24 → (∀ i, i < j → yc_on r tq q i = true → R (yc_v b_value tp p m) (yc_v b_value tq q i) = false) →
      wY_compare_74 post J3 (nI k) (nI a) (nI b) (nI m) (yc_v b_value tp p m) g_count g_top g_listed g_outputs b_row b_depth b_name b_value b_moved b_kind b_with b_length b_sets b_fresh b_type b_number b_set b_list b_there b_match b_priority b_out b_on b_todo b_within b_output (d + 1) (nI j) := by
    intro J3 m hm hon hJ d
    induction d with
    | zero =>
      intro j hj h
      exact pk_le 24 j (fun _ => nm_r (nI_1 m) (hJ (fun i hi => h i (by omega)))) (fun z => by omega)
    | succ d ih =>
      intro j hj h
      have nxt : (yc_on r tq q j = true → R (yc_v b_value tp p m) (yc_v b_value tq q j) = false) → wY_compare_74 post J3 (nI k) (nI a) (nI b) (nI m) (yc_v b_value tp p m) g_count g_top g_listed g_outputs b_row b_depth b_name b_value b_moved b_kind b_with b_length b_sets b_fresh b_type b_number b_set b_list b_there b_match b_priority b_out b_on b_todo b_within b_output (d + 1) (nI (j + 1)) := by
        intro hh
        refine ih (j + 1) (by omega) (fun i hi => ?_)
        by_cases e : i = j
        · rw [e]; exact hh
        · exact h i (by omega)
      have c140 : yc_on r tq q j = true → ∀ z0 : Int32, z0 = yc_v b_value tq q j → wY_compare_140 post J3 (wY_compare_74 post J3 (nI k) (nI a) (nI b) (nI m) (yc_v b_value tp p m) g_count g_top g_listed g_outputs b_row b_depth b_name b_value b_moved b_kind b_with b_length b_sets b_fresh b_type b_number b_set b_list b_there b_match b_priority b_out b_on b_todo b_within b_output (d + 1)) (nI k) (nI a) (nI b) (nI m) (yc_v b_value tp p m) (nI j) z0 g_count g_top g_listed g_outputs b_row b_depth b_name b_value b_moved b_kind b_with b_length b_sets b_fresh b_type b_number b_set b_list b_there b_match b_priority b_out b_on b_todo b_within b_output := by
        intro ho z0 hz
        subst hz
        exact hR _ _ _ _ (fun w => yes m j hm (by omega) hon ho w) (fun w => by
          first
          | exact nm_r (nI_1 j) (nxt (fun _ => w)))
      have c115 : yc_on r tq q j = true → wY_compare_115 post J3 (wY_compare_74 post J3 (nI k) (nI a) (nI b) (nI m) (yc_v b_value tp p m) g_count g_top g_listed g_outputs b_row b_depth b_name b_value b_moved b_kind b_with b_length b_sets b_fresh b_type b_number b_set b_list b_there b_match b_priority b_out b_on b_todo b_within b_output (d + 1)) (nI k) (nI a) (nI b) (nI m) (yc_v b_value tp p m) (nI j) g_count g_top g_listed g_outputs b_row b_depth b_name b_value b_moved b_kind b_with b_length b_sets b_fresh b_type b_number b_set b_list b_there b_match b_priority b_out b_on b_todo b_within b_output := by
        intro ho
        refine ⟨pk_in b 48 hb, pk_eq tq 0 (fun e => ⟨pk_in j 24 (by omega), c140 ho _ ?_⟩) (fun e => ⟨pk_in b 48 hb, c140 ho _ ?_⟩) (by rw [cb]; exact kb1)⟩
        · unfold yc_v; rw [if_pos e, nI_clamp (by omega)]
        · unfold yc_v; rw [if_neg e, cb]; exact kb3 e
      refine pk_le 24 j (fun z => by omega) (fun _ => ⟨pk_in b 48 hb, pk_eq tq 0 (fun e => ⟨pk_in b 48 hb, ?_⟩) (fun e => ?_) (by rw [cb]; exact kb1)⟩)
      · have es : b_set (nI b).toNatClampNeg = sm_im r q := by rw [cb]; exact kb2 e
        have ec : (b_set (nI b).toNatClampNeg >>> (nI j &&& 31)) &&& 1 = (sm_im r q >>> (nI j &&& 31)) &&& 1 := by rw [es]
        have on : yc_on r tq q j = bt (sm_im r q) j := by unfold yc_on; rw [if_pos e]
        cases y : bt (sm_im r q) j with
        | false => exact br_t (ec.trans ((bs_t0 (by omega)).mpr y)) (nm_r (nI_1 j) (nxt (fun w => by rw [on, y] at w; exact absurd w (by decide))))
        | true => exact br_f (fun z => by have := (bs_t0 (by omega)).mp (ec.symm.trans z); rw [y] at this; exact absurd this (by decide)) (c115 (on.trans y))
      · refine pk_le j 0 (fun z => c115 ?_) (fun z => nm_r (nI_1 j) (nxt (fun w => ?_)))
        · unfold yc_on; rw [if_neg e]; exact decide_eq_true (by omega)
        · unfold yc_on at w; rw [if_neg e] at w; have := of_decide_eq_true w; omega
  have outer : ∀ d m, m + d = 24 → (∀ i j, i < m → j < 24 → yc_on r tp p i = true → yc_on r tq q j = true → R (yc_v b_value tp p i) (yc_v b_value tq q j) = false) → wY_compare_3 post (nI k) (nI a) (nI b) g_count g_top g_listed g_outputs b_row b_depth b_name b_value b_moved b_kind b_with b_length b_sets b_fresh b_type b_number b_set b_list b_there b_match b_priority b_out b_on b_todo b_within b_output (d + 1) (nI m) := by
    intro d
    induction d with
    | zero =>
      intro m hm h
      exact pk_le 24 m (fun _ => no (fun i j hi hj => h i j (by omega) hj)) (fun z => by omega)
    | succ d ih =>
      intro m hm h
      have nxt : (∀ j, j < 24 → yc_on r tp p m = true → yc_on r tq q j = true → R (yc_v b_value tp p m) (yc_v b_value tq q j) = false) → wY_compare_3 post (nI k) (nI a) (nI b) g_count g_top g_listed g_outputs b_row b_depth b_name b_value b_moved b_kind b_with b_length b_sets b_fresh b_type b_number b_set b_list b_there b_match b_priority b_out b_on b_todo b_within b_output (d + 1) (nI (m + 1)) := by
        intro hh
        refine ih (m + 1) (by omega) (fun i j hi hj => ?_)
        by_cases e : i = m
        · rw [e]; exact hh j hj
        · exact h i j (by omega) hj
      have inn : yc_on r tp p m = true → ∃ n74, wY_compare_74 post (wY_compare_3 post (nI k) (nI a) (nI b) g_count g_top g_listed g_outputs b_row b_depth b_name b_value b_moved b_kind b_with b_length b_sets b_fresh b_type b_number b_set b_list b_there b_match b_priority b_out b_on b_todo b_within b_output (d + 1)) (nI k) (nI a) (nI b) (nI m) (yc_v b_value tp p m) g_count g_top g_listed g_outputs b_row b_depth b_name b_value b_moved b_kind b_with b_length b_sets b_fresh b_type b_number b_set b_list b_there b_match b_priority b_out b_on b_todo b_within b_output n74 0 := by
        intro ho
        have := inner (wY_compare_3 post (nI k) (nI a) (nI b) g_count g_top g_listed g_outputs b_row b_depth b_name b_value b_moved b_kind b_with b_length b_sets b_fresh b_type b_number b_set b_list b_there b_match b_priority b_out b_on b_todo b_within b_output (d + 1)) m (by omega) ho (fun hh => nxt (fun j hj _ => hh j hj)) 24 0 (by omega) (fun i hi => by omega)
        rw [nI_0] at this
        exact ⟨_, this⟩
      have c44 : yc_on r tp p m = true → wY_compare_44 post (wY_compare_3 post (nI k) (nI a) (nI b) g_count g_top g_listed g_outputs b_row b_depth b_name b_value b_moved b_kind b_with b_length b_sets b_fresh b_type b_number b_set b_list b_there b_match b_priority b_out b_on b_todo b_within b_output (d + 1)) (nI k) (nI a) (nI b) (nI m) g_count g_top g_listed g_outputs b_row b_depth b_name b_value b_moved b_kind b_with b_length b_sets b_fresh b_type b_number b_set b_list b_there b_match b_priority b_out b_on b_todo b_within b_output := by
        intro ho
        refine ⟨pk_in a 48 ha, pk_eq tp 0 (fun e => ⟨pk_in m 24 (by omega), nm_r (e' := yc_v b_value tp p m) ?_ (inn ho)⟩) (fun e => ⟨pk_in a 48 ha, nm_r (e' := yc_v b_value tp p m) ?_ (inn ho)⟩) (by rw [ca]; exact ka1)⟩
        · unfold yc_v; rw [if_pos e, nI_clamp (by omega)]
        · unfold yc_v; rw [if_neg e, ca]; exact ka3 e
      refine pk_le 24 m (fun z => by omega) (fun _ => ⟨pk_in a 48 ha, pk_eq tp 0 (fun e => ⟨pk_in a 48 ha, ?_⟩) (fun e => ?_) (by rw [ca]; exact ka1)⟩)
      · have es : b_set (nI a).toNatClampNeg = sm_im r p := by rw [ca]; exact ka2 e
        have ec : (b_set (nI a).toNatClampNeg >>> (nI m &&& 31)) &&& 1 = (sm_im r p >>> (nI m &&& 31)) &&& 1 := by rw [es]
        have on : yc_on r tp p m = bt (sm_im r p) m := by unfold yc_on; rw [if_pos e]
        cases y : bt (sm_im r p) m with
        | false => exact br_t (ec.trans ((bs_t0 (by omega)).mpr y)) (nm_r (nI_1 m) (nxt (fun j _ w => by rw [on, y] at w; exact absurd w (by decide))))
        | true => exact br_f (fun z => by have := (bs_t0 (by omega)).mp (ec.symm.trans z); rw [y] at this; exact absurd this (by decide)) (c44 (on.trans y))
      · refine pk_le m 0 (fun z => c44 ?_) (fun z => nm_r (nI_1 m) (nxt (fun j _ w => ?_)))
        · unfold yc_on; rw [if_neg e]; exact decide_eq_true (by omega)
        · unfold yc_on at w; rw [if_neg e] at w; have := of_decide_eq_true w; omega
  have h := outer 24 0 (by omega) (fun i j hi => by omega)
  rw [nI_0] at h
  exact ⟨_, h⟩
/-- result: the number of a token that is no set -/
theorem ty_result (W : tr_TW c r D nm) (T : yy_t g_count b_row b_depth b_name b_value c r D nm va) {k a tp tq : Nat} {w p q ps la : Int32} (hk : 7 ≤ k ∧ k ≤ 17) (ha : a < 48) (htp : tp ≤ 2) (htq : tq ≤ 2) (hsp : tp = 0 → bs_ok c p) (hsq : tq = 0 → bs_ok c q)
    (h7 : k < 10 → tp = 0) (Ka : yy_sk r b_type b_number b_set a tp p) (Kb : 10 ≤ k → k ≠ 17 → 1 ≤ a ∧ yy_sk r b_type b_number b_set (a - 1) tq q) (hp : post (sm_jn va k p tp q tq)) : wpY_result post (g_count, g_top, g_listed, g_outputs, b_row, b_depth, b_name, b_value, b_moved, b_kind, b_with, b_length, b_sets, b_fresh, b_type, b_number, b_set, b_list, b_there, b_match, b_priority, b_out, b_on, b_todo, b_within, b_output) (nI k) w (nI a) ps la := by
  have ca : (nI a).toNatClampNeg = a := nI_clamp (by omega)
  have es : k < 10 → b_set (nI a).toNatClampNeg = sm_im r p := fun z => by rw [ca]; exact Ka.2.1 (h7 z)
  have em : 10 ≤ k → k ≠ 17 → nI a - 1 = nI (a - 1) := fun z y => pk_sub (b := 1) (Kb z y).1
  have k193 : 10 ≤ k → k < 13 → wY_result_193 post (nI k) (nI a) g_count g_top g_listed g_outputs b_row b_depth b_name b_value b_moved b_kind b_with b_length b_sets b_fresh b_type b_number b_set b_list b_there b_match b_priority b_out b_on b_todo b_within b_output := by
    intro z y
    obtain ⟨b1, b2⟩ := Kb z (by omega)
    unfold wY_result_193
    refine ty_plain W T ha htp hsp Ka (ek_v (P := fun w => wpY_plain _ _ w) (em z (by omega)) (ty_plain W T (by omega) htq hsq b2 ?_))
    refine pk_eq k 10 (fun e => ?_) (fun e => pk_eq k 11 (fun e2 => ?_) (fun e2 => ?_))
    · subst e; exact hp
    · subst e2; exact hp
    · have e3 : k = 12 := by omega
      subst e3; exact hp
  have k113 : k = 13 ∨ k = 14 → wY_result_113 post (nI k) (nI a) g_count g_top g_listed g_outputs b_row b_depth b_name b_value b_moved b_kind b_with b_length b_sets b_fresh b_type b_number b_set b_list b_there b_match b_priority b_out b_on b_todo b_within b_output := by
    intro z
    obtain ⟨b1, b2⟩ := Kb (by omega) (by omega)
    unfold wY_result_113
    refine ek_v (P := fun w => wpY_compare _ _ _ _ w) (em (by omega) (by omega)) (ty_compare W T z ha (by omega) htp htq hsp hsq Ka b2 ?_)
    have : ∃ b : Bool, sm_jn va k p tp q tq = lb b := by
      rcases z with e | e
      · subst e; exact ⟨_, rfl⟩
      · subst e; exact ⟨_, rfl⟩
    obtain ⟨b, eb⟩ := this
    rw [eb] at hp ⊢
    exact lb_bp hp
  refine pk_lt k 4 (fun z => by omega) (fun _ => pk_lt 17 k (fun z => by omega) (fun _ => pk_eq k 4 (fun z => by omega) (fun _ => pk_eq k 5 (fun z => by omega) (fun _ => pk_eq k 6 (fun z => by omega) (fun _ => pk_eq k 7 (fun e => ⟨pk_in a 48 ha, ?_⟩) (fun n7 => pk_eq k 8 (fun e => ⟨pk_in a 48 ha, ?_⟩) (fun n8 => pk_eq k 9 (fun e => ⟨pk_in a 48 ha, ?_⟩) (fun n9 => pk_eq k 10 (fun e => k193 (by omega) (by omega)) (fun n10 => pk_eq k 11 (fun e => k193 (by omega) (by omega)) (fun n11 => pk_eq k 12 (fun e => k193 (by omega) (by omega)) (fun n12 => pk_eq k 13 (fun e => k113 (by omega)) (fun n13 => pk_eq k 14 (fun e => k113 (by omega)) (fun n14 => pk_eq k 15 (fun e => ?_) (fun n15 => pk_eq k 16 (fun e => ?_) (fun n16 => pk_eq k 17 (fun e => ?_) (fun n17 => by omega))))))))))))))))
  · have t := h7 (by omega)
    refine ek_v (P := fun w => wpY_counted _ _ w) (es (by omega)) (ty_counted W (hsp t) ?_)
    subst e; exact hp
  · have t := h7 (by omega)
    refine ek_v (P := fun w => wpY_summed _ _ w) (es (by omega)) (ty_summed W T (hsp t) ?_)
    subst e; exact hp
  · have t := h7 (by omega)
    refine ek_v (P := fun w => wpY_firstOf _ _ w) (es (by omega)) (ty_firstOf W T (hsp t) ?_)
    subst e; exact hp
  · obtain ⟨b1, b2⟩ := Kb (by omega) (by omega)
    have hp : post (lb (decide (p ≠ 0 ∧ q ≠ 0))) := by subst e; exact hp
    refine ty_isTrue W ha htp hsp Ka (fun z => br_f (by decide) (ek_v (P := fun w => wpY_isTrue _ _ w) (em (by omega) (by omega)) (ty_isTrue W (by omega) htq hsq b2 (fun y => br_f (by decide) ?_) (fun y => br_t rfl ?_)))) (fun z => br_t rfl ?_)
    · rw [decide_eq_true ⟨z, y⟩] at hp; exact hp
    · rw [decide_eq_false (fun w => w.2 y)] at hp; exact hp
    · rw [decide_eq_false (fun w => w.1 z)] at hp; exact hp
  · obtain ⟨b1, b2⟩ := Kb (by omega) (by omega)
    have hp : post (lb (decide (p ≠ 0 ∨ q ≠ 0))) := by subst e; exact hp
    refine ty_isTrue W ha htp hsp Ka (fun z => br_f (by decide) ?_) (fun z => br_t rfl (ek_v (P := fun w => wpY_isTrue _ _ w) (em (by omega) (by omega)) (ty_isTrue W (by omega) htq hsq b2 (fun y => br_f (by decide) ?_) (fun y => br_t rfl ?_))))
    · rw [decide_eq_true (Or.inl z)] at hp; exact hp
    · rw [decide_eq_true (Or.inr y)] at hp; exact hp
    · rw [decide_eq_false (fun w => w.elim (fun a => a z) (fun a => a y))] at hp; exact hp
  · have hp : post (lb (decide (p = 0))) := by subst e; exact hp
    refine ty_isTrue W ha htp hsp Ka (fun z => br_f (by decide) ?_) (fun z => br_t rfl ?_)
    · rw [decide_eq_false z] at hp; exact hp
    · rw [decide_eq_true z] at hp; exact hp
end
end
section
/-! ===== Y.workOut, Y.sift ===== -/
def yy_sl (o n : Nat) (K : Nat → Nat) (V : Nat → Int32) (kind wit : Nat → Int32) : Prop := ∀ i, i < n → kind (o + i) = nI (K i) ∧ wit (o + i) = V i
def yy_st (c : Nat) (r D nm : Nat → Nat) (va : Nat → Int32) (o n : Nat) (K : Nat → Nat) (V : Nat → Int32) (lo : Nat) (sets : Nat → Int32) : Prop :=
  ∀ j, lo ≤ j → j < n → ex_ty (K j) = 0 → ∀ x, x < c → sets (24 * (o + j) + r x) = sm_im r (sm_ev c D nm va n K V j x 1 1)
theorem ex_ty_0 {k : Nat} : ex_ty k = 0 ↔ k < 4 := by
  unfold ex_ty
  by_cases z : k < 4
  · rw [if_pos z]; exact ⟨fun _ => z, fun _ => rfl⟩
  · rw [if_neg z]
    by_cases y : k < 13
    · rw [if_pos y]; omega
    · rw [if_neg y]; omega
section
variable {c : Nat} {r D nm : Nat → Nat} {va : Nat → Int32} {n : Nat} {K : Nat → Nat} {V : Nat → Int32} {o : Nat} {g_count g_top g_listed g_outputs : Int32} {b_row b_depth b_name b_value b_moved b_kind b_with b_length b_sets b_fresh b_type b_number b_set b_list b_there b_match b_priority b_out b_on b_todo b_within b_output : Nat → Int32}
theorem ty_work_loop (W : tr_TW c r D nm) (T : yy_t g_count b_row b_depth b_name b_value c r D nm va) (E : ex_E n K V) (ho : o + n ≤ 320) (S : yy_sl o n K V b_kind b_with)
    {f x : Nat} {ps la : Int32} (hf : f < n) (hx : x < c) (hT : yy_st c r D nm va o n K V f b_sets) {post : SY → Prop} (hp : ∀ tp ty nu se, yy_sk r ty nu se 0 (ex_ty (K f)) (sm_ev c D nm va n K V f x ps la) → post (g_count, tp, g_listed, g_outputs, b_row, b_depth, b_name, b_value, b_moved, b_kind, b_with, b_length, b_sets, b_fresh, ty, nu, se, b_list, b_there, b_match, b_priority, b_out, b_on, b_todo, b_within, b_output)) :
    ∀ d t top ty nu se, t = f + d → t ≤ ex_B n K V f → (∀ j, j < top → yy_sk r ty nu se (top - 1 - j) (ex_ty (K (ex_hop (ex_B n K V) j t))) (sm_ev c D nm va n K V (ex_hop (ex_B n K V) j t) x ps la) ∧ ex_hop (ex_B n K V) j t < ex_B n K V f) → ex_hop (ex_B n K V) top t = ex_B n K V f →
      wY_workOut_23 post (nI (r x)) ps la (nI (o + f)) g_count g_listed g_outputs (d + 1) (nI (o + t) + (-1)) (nI top) b_row b_depth b_name b_value b_moved b_kind b_with b_length b_sets b_fresh ty nu se b_list b_there b_match b_priority b_out b_on b_todo b_within b_output := by
  have hc := W.1
  have hn := E.2.1
  have hfn := (E.2.2.2.2 f hf).1
  have hBl := fun x => ex_B_lt (n := n) (K := K) (V := V) x
  have hrx := W.2.1 x hx
  intro d
  induction d with
  | zero =>
    intro t top ty nu se ht hte hO hN
    have e : t = f := by omega
    subst e
    have htop : top = 1 := ex_hop_inj hBl (x := t) hN
    subst htop
    refine br_t (lt_m1 (by omega)) (hp (nI 1) ty nu se ?_)
    exact (hO 0 (by omega)).1
  | succ d ih =>
    intro t top ty nu se ht hte hO hN
    obtain ⟨i, rfl⟩ : ∃ i, t = i + 1 := ⟨t - 1, by omega⟩
    rw [show o + (i + 1) = o + i + 1 by omega, pk_m1]
    have hi : i < n := by omega
    obtain ⟨s1, s2⟩ := S i hi
    have tok := E.2.2.2.1 i hi
    obtain ⟨o1, o2, o3⟩ := E.2.2.2.2 i hi
    have hB : ex_B n K V i = ex_hop (ex_B n K V) (ex_ar (K i) (V i)) (i + 1) := ex_B_eq hi
    have har := ex_top E hf (by omega) (by omega) hN
    have htl : top ≤ 40 := by
      have := ex_hop_le hBl top (i + 1)
      omega
    have voi : vp_in (nI (o + i)) 360 := pk_in (o + i) 360 (by omega)
    have ek : b_kind (nI (o + i)).toNatClampNeg = nI (K i) := by rw [nI_clamp (by omega)]; exact s1
    have ew : b_with (nI (o + i)).toNatClampNeg = V i := by rw [nI_clamp (by omega)]; exact s2
    have k17 := tok.1
    have hty := ex_ty_le (K i)
    refine pk_lt (o + i) (o + f) (fun z => by omega) (fun _ => ⟨voi, voi, ek_v (P := fun w => wpY_operands _ w _) ek (ek_v (P := fun w => wpY_operands _ (nI (K i)) w) ew (ty_operands tok ?_))⟩)
    have e9 : nI (top - ex_ar (K i) (V i)) + nI (ex_ar (K i) (V i)) - 1 = nI top - 1 := by rw [nI_add, show top - ex_ar (K i) (V i) + ex_ar (K i) (V i) = top by omega]
    have e24 : (24 : Int32) * nI (o + i) + nI (r x) = nI (24 * (o + i) + r x) := x24 _ _
    refine nm_r (pk_sub har) (nm_r e9 ⟨voi, ek_v (P := fun w => wpY_typeOf _ w) ek (ty_typeOf k17 ?_)⟩)
    -- the end of a step
    have k139 : ∀ (x11 z0 : Int32), (ex_ty (K i) = 0 → x11 = sm_im r (sm_ev c D nm va n K V i x ps la)) → (ex_ty (K i) ≠ 0 → z0 = sm_ev c D nm va n K V i x ps la) →
        wY_workOut_139 post (wY_workOut_23 post (nI (r x)) ps la (nI (o + f)) g_count g_listed g_outputs (d + 1)) (nI (r x)) ps la (nI (o + f)) (nI (o + i)) (nI (ex_ty (K i))) x11 z0 g_count (nI (top - ex_ar (K i) (V i))) g_listed g_outputs b_row b_depth b_name b_value b_moved b_kind b_with b_length b_sets b_fresh ty nu se b_list b_there b_match b_priority b_out b_on b_todo b_within b_output := by
      intro x11 z0 h11 h0
      have vt : vp_in (nI (top - ex_ar (K i) (V i))) 48 := pk_in (top - ex_ar (K i) (V i)) 48 (by omega)
      refine ⟨vt, nm_r (up_cl (by omega) rfl) ⟨vt, nm_r (up_cl (by omega) rfl) ⟨vt, nm_r (up_cl (by omega) rfl) (nm_r (nI_1 _) (nm_e (ih i (top - ex_ar (K i) (V i) + 1) _ _ _ (by omega) (by omega) (fun j hj => ?_) ?_)))⟩⟩⟩
      · cases j with
        | zero =>
          refine ⟨?_, by show i < _; omega⟩
          rw [show top - ex_ar (K i) (V i) + 1 - 1 - 0 = top - ex_ar (K i) (V i) by omega]
          exact ⟨pk_us, fun z => by rw [pk_us]; exact h11 z, fun z => by rw [pk_us]; exact h0 z⟩
        | succ j =>
          have := hO (ex_ar (K i) (V i) + j) (by omega)
          rw [ex_hop_add, ← hB] at this
          refine ⟨?_, this.2⟩
          rw [show top - ex_ar (K i) (V i) + 1 - 1 - (j + 1) = top - 1 - (ex_ar (K i) (V i) + j) by omega]
          obtain ⟨⟨q1, q2, q3⟩, -⟩ := this
          exact ⟨by rw [pk_un (by omega)]; exact q1, fun z => by rw [pk_un (by omega)]; exact q2 z, fun z => by rw [pk_un (by omega)]; exact q3 z⟩
      · show ex_hop (ex_B n K V) (top - ex_ar (K i) (V i)) (ex_B n K V i) = _
        rw [hB, ← ex_hop_add, show ex_ar (K i) (V i) + (top - ex_ar (K i) (V i)) = top by omega]; exact hN
    have evF := sm_ev_eq (c := c) (D := D) (nm := nm) (va := va) (n := n) (K := K) (V := V) hi x ps la
    have hcs := ex_ar_cases tok
    refine pk_eq (ex_ty (K i)) 0 (fun t0 => ⟨pk_in _ 7680 (by omega) e24, pk_eq (ex_ty (K i)) 0 (fun _ => ?_) (fun z => absurd t0 z)⟩) (fun t0 => pk_eq (ex_ty (K i)) 0 (fun z => absurd z t0) (fun _ => ⟨voi, voi, ?_⟩))
    · refine k139 _ 0 (fun _ => ?_) (fun z => absurd t0 z)
      rw [cl_n e24 (by omega), hT i (by omega) hi t0 x hx]
      rw [sm_ev_loc _ i (Nat.le_refl _) hi E (ex_L_set hi t0) x 1 1 ps la]
    · refine ek_v (P := fun w => wpY_result _ _ w _ _ _ _) ek (ek_v (P := fun w => wpY_result _ _ (nI (K i)) w _ _ _) ew ?_)
      have k4 : 4 ≤ K i := by
        rcases Nat.lt_or_ge (K i) 4 with z | z
        · exact absurd (ex_ty_0.mpr z) t0
        · exact z
      have done : ∀ v : Int32, v = sm_ev c D nm va n K V i x ps la → wY_workOut_139 post (wY_workOut_23 post (nI (r x)) ps la (nI (o + f)) g_count g_listed g_outputs (d + 1)) (nI (r x)) ps la (nI (o + f)) (nI (o + i)) (nI (ex_ty (K i))) 0 v g_count (nI (top - ex_ar (K i) (V i))) g_listed g_outputs b_row b_depth b_name b_value b_moved b_kind b_with b_length b_sets b_fresh ty nu se b_list b_there b_match b_priority b_out b_on b_todo b_within b_output := fun v hv => k139 0 v (fun z => absurd z t0) (fun _ => hv)
      rcases Nat.lt_or_ge (K i) 7 with z7 | z7
      · refine pk_lt (K i) 4 (fun z => by omega) (fun _ => pk_lt 17 (K i) (fun z => by omega) (fun _ => pk_eq (K i) 4 (fun e => done _ ?_) (fun n4 => pk_eq (K i) 5 (fun e => done _ ?_) (fun n5 => pk_eq (K i) 6 (fun e => done _ ?_) (fun n6 => by omega)))))
        · rw [evF]; unfold sm_F; simp [e]
        · rw [evF]; unfold sm_F; simp [e]
        · rw [evF]; unfold sm_F; simp [e]
      · have a1 : 1 ≤ ex_ar (K i) (V i) := by omega
        have hi1 : i + 1 < n := o2 0 (by omega)
        have em : nI top - 1 = nI (top - 1) := pk_sub (b := 1) (by omega)
        refine ek_v (P := fun w => wpY_result _ _ _ _ w _ _) em ?_
        have K0 := (hO 0 (by omega)).1
        rw [show top - 1 - 0 = top - 1 by omega] at K0
        have okp : ex_ty (K (i + 1)) = 0 → bs_ok c (sm_ev c D nm va n K V (i + 1) x ps la) := fun z => sm_ev_ok hc (by omega) _ (i + 1) (Nat.le_refl _) hi1 E z x hx ps la
        by_cases a2 : ex_ar (K i) (V i) = 2
        · have hi2 : ex_B n K V (i + 1) < n := o2 1 (by omega)
          have K1 := (hO 1 (by omega)).1
          rw [show top - 1 - 1 = top - 1 - 1 from rfl] at K1
          refine ty_result W T (tq := ex_ty (K (ex_B n K V (i + 1)))) (q := sm_ev c D nm va n K V (ex_B n K V (i + 1)) x ps la) (by omega) (by omega) (ex_ty_le _) (ex_ty_le _) okp (fun w => sm_ev_ok hc (by omega) _ _ (Nat.le_refl _) hi2 E w x hx ps la) (fun z => by omega) K0 (fun _ _ => ⟨by omega, K1⟩) (done _ ?_)
          rw [evF]
          unfold sm_F
          rw [if_neg (by omega), if_neg (by omega), if_neg (by omega), if_neg (by omega), if_neg (by omega), if_neg (by omega), if_pos a2, if_pos a2]
        · refine ty_result W T (tq := 1) (q := 0) (by omega) (by omega) (ex_ty_le _) (by omega) okp (fun w => by omega) (fun z => o3.2.2.1 (by omega) z) K0 (fun z1 z2 => by omega) (done _ ?_)
          rw [evF]
          unfold sm_F
          rw [if_neg (by omega), if_neg (by omega), if_neg (by omega), if_neg (by omega), if_neg (by omega), if_neg (by omega), if_neg a2, if_neg a2]
theorem ty_workOut (W : tr_TW c r D nm) (T : yy_t g_count b_row b_depth b_name b_value c r D nm va) {s : Nat} (hs : s < 8) (E : ex_E n K V) (S : yy_sl (40 * s) n K V b_kind b_with)
    {f x : Nat} {ps la : Int32} (hf : f < n) (hx : x < c) (hT : yy_st c r D nm va (40 * s) n K V f b_sets) {post : SY → Prop} (hp : ∀ tp ty nu se, yy_sk r ty nu se 0 (ex_ty (K f)) (sm_ev c D nm va n K V f x ps la) → post (g_count, tp, g_listed, g_outputs, b_row, b_depth, b_name, b_value, b_moved, b_kind, b_with, b_length, b_sets, b_fresh, ty, nu, se, b_list, b_there, b_match, b_priority, b_out, b_on, b_todo, b_within, b_output)) :
    wpY_workOut post (g_count, g_top, g_listed, g_outputs, b_row, b_depth, b_name, b_value, b_moved, b_kind, b_with, b_length, b_sets, b_fresh, b_type, b_number, b_set, b_list, b_there, b_match, b_priority, b_out, b_on, b_todo, b_within, b_output) (nI s) (nI f) (nI (r x)) ps la := by
  have hn := E.2.1
  have hfn := (E.2.2.2.2 f hf).1
  have hBl := ex_B_lt (n := n) (K := K) (V := V) f
  have e1 : (40 : Int32) * nI s + nI f = nI (40 * s + f) := by rw [x40, nI_add]
  refine nm_r e1 (ty_endOf (o := 40 * s) (by omega) E S hf ?_)
  have h := ty_work_loop (g_listed := g_listed) (g_outputs := g_outputs) (o := 40 * s) W T E (by omega) S (ps := ps) (la := la) hf hx hT hp (ex_B n K V f - f) (ex_B n K V f) 0 b_type b_number b_set (by omega) (by omega) (fun j hj => by omega) rfl
  rw [nI_0] at h
  exact nm_r (e' := nI (40 * s + ex_B n K V f) + (-1)) (by rw [Int32.sub_eq_add_neg]) ⟨_, h⟩
/-! lists of nodes in Y's list -/
def yy_ar (r : Nat → Nat) (a : Nat → Int32) : Nat → List Nat → Prop
  | _, [] => True
  | j, k :: L => a j = nI (r k) ∧ yy_ar r a (j + 1) L
theorem yy_ar_app {a : Nat → Int32} : ∀ (L M : List Nat) (j : Nat), yy_ar r a j L → yy_ar r a (j + L.length) M → yy_ar r a j (L ++ M)
  | [], M, j, _, h => by rw [List.length_nil, Nat.add_zero] at h; exact h
  | k :: L, M, j, h, h' => ⟨h.1, yy_ar_app L M (j + 1) h.2 (by rw [List.length_cons] at h'; rw [show j + 1 + L.length = j + (L.length + 1) by omega]; exact h')⟩
theorem yy_ar_upd {a : Nat → Int32} {m : Nat} {w : Int32} : ∀ (L : List Nat) (j : Nat), (m < j ∨ j + L.length ≤ m) → yy_ar r a j L → yy_ar r (upd a m w) j L
  | [], _, _, _ => trivial
  | k :: L, j, hm, h => by
    rw [List.length_cons] at hm
    exact ⟨by rw [pk_un (by omega)]; exact h.1, yy_ar_upd L (j + 1) (by omega) h.2⟩
theorem ty_sift_loop (W : tr_TW c r D nm) (T : yy_t g_count b_row b_depth b_name b_value c r D nm va) {s : Nat} (hs : s < 8) (E : ex_E n K V) (S : yy_sl (40 * s) n K V b_kind b_with)
    {t : Nat} (ht : t < n) (hT : yy_st c r D nm va (40 * s) n K V t b_sets) {post : SY → Prop} {n0 : Nat} {M : List Nat} (hn0 : n0 ≤ 24) (hp : ∀ tp ty nu se li, yy_ar r li 0 M → post (g_count, tp, nI M.length, g_outputs, b_row, b_depth, b_name, b_value, b_moved, b_kind, b_with, b_length, b_sets, b_fresh, ty, nu, se, li, b_there, b_match, b_priority, b_out, b_on, b_todo, b_within, b_output)) :
    ∀ (L : List Nat) (j : Nat) (R : List Nat) (tp : Int32) (ty nu se li : Nat → Int32), j + L.length = n0 → R.length ≤ j → (∀ k, k ∈ L → k < c) → yy_ar r li j L → yy_ar r li 0 R → M = R ++ sm_sift (sm_h c D nm va n K V t (nI n0)) L j →
      wY_sift_13 post (nI s) (nI t) (nI n0) (L.length + 1) (nI j) g_count tp (nI R.length) g_outputs b_row b_depth b_name b_value b_moved b_kind b_with b_length b_sets b_fresh ty nu se li b_there b_match b_priority b_out b_on b_todo b_within b_output := by
  have hc := W.1
  have hn := E.2.1
  intro L
  induction L with
  | nil =>
    intro j R tp ty nu se li hj hR hb h1 h2 hM
    have e : M = R := by rw [hM]; exact List.append_nil R
    rw [List.length_nil] at hj
    rw [← e] at h2 ⊢
    exact pk_le n0 j (fun _ => hp tp ty nu se li h2) (fun z => by omega)
  | cons k L ih =>
    intro j R tp ty nu se li hj hR hb h1 h2 hM
    rw [List.length_cons] at hj
    have hk := hb k (List.mem_cons_self ..)
    have hrk := W.2.1 k hk
    have e5 : li (nI j).toNatClampNeg = nI (r k) := by rw [nI_clamp (by omega)]; exact h1.1
    refine pk_le n0 j (fun z => by omega) (fun _ => ⟨pk_in j 24 (by omega), nm_r e5 ?_⟩)
    refine ek_v (P := fun w => wpY_workOut _ _ _ _ _ w _) (nI_1 j) (ty_workOut W T hs E S ht hk hT (fun tp' ty' nu' se' sk => ?_))
    have k113 : ∀ z0 : Int32, z0 = lb (sm_h c D nm va n K V t (nI n0) k (nI (j + 1))) → wY_sift_113 post (wY_sift_13 post (nI s) (nI t) (nI n0) (L.length + 1)) (nI s) (nI t) (nI n0) (nI j) (nI (r k)) z0 g_count tp' (nI R.length) g_outputs b_row b_depth b_name b_value b_moved b_kind b_with b_length b_sets b_fresh ty' nu' se' li b_there b_match b_priority b_out b_on b_todo b_within b_output := by
      intro z0 hz
      subst hz
      refine lb_br (fun hh => ?_) (fun hh => ?_)
      · refine nm_r (nI_1 _) ⟨pk_in R.length 24 (by omega), nm_r (up_cl (by omega) rfl) (nm_r (nI_1 j) ?_)⟩
        have := ih (j + 1) (R ++ [k]) tp' ty' nu' se' (upd li R.length (nI (r k))) (by omega) (by rw [List.length_append]; simp; omega) (fun q hq => hb q (List.mem_cons_of_mem _ hq)) (yy_ar_upd L (j + 1) (Or.inl (by omega)) h1.2) (yy_ar_app R [k] 0 (yy_ar_upd R 0 (Or.inr (by omega)) h2) (by rw [Nat.zero_add]; exact ⟨pk_us, trivial⟩)) (by rw [hM, sm_sift, if_pos hh, List.append_assoc]; rfl)
        rw [show (R ++ [k]).length = R.length + 1 by rw [List.length_append]; rfl] at this
        exact this
      · refine nm_r (nI_1 j) (ih (j + 1) R tp' ty' nu' se' li (by omega) (by omega) (fun q hq => hb q (List.mem_cons_of_mem _ hq)) h1.2 h2 ?_)
        rw [hM, sm_sift, if_neg (by rw [hh]; decide)]
    obtain ⟨q1, q2, q3⟩ := sk
    have hty := ex_ty_le (K t)
    have hdef : sm_h c D nm va n K V t (nI n0) k (nI (j + 1)) = sm_hold (ex_ty (K t)) (sm_ev c D nm va n K V t k (nI (j + 1)) (nI n0)) (nI (j + 1)) := rfl
    have h01 := sm_ev_01 (c := c) (D := D) (nm := nm) (va := va) (n := n) (K := K) (V := V) ht
    have hok : ex_ty (K t) = 0 → bs_ok c (sm_ev c D nm va n K V t k (nI (j + 1)) (nI n0)) := fun z => sm_ev_ok hc (by omega) _ t (Nat.le_refl _) ht E z k hk _ _
    generalize hvv : sm_ev c D nm va n K V t k (nI (j + 1)) (nI n0) = vv at *
    unfold sm_hold at hdef
    refine pk_eq (ex_ty (K t)) 0 (fun t0 => ?_) (fun t0 => pk_eq (ex_ty (K t)) 1 (fun t1 => ?_) (fun t1 => ?_) q1) q1
    · rw [if_neg (by omega)] at hdef
      have ez := im_0 W.1 W.2.1 W.2.2.1 (hok t0)
      by_cases z : vv = 0
      · exact br_t ((q2 t0).trans (ez.mpr z)) (k113 0 (by rw [hdef, decide_eq_false (fun w => w z)]; rfl))
      · exact br_f (fun w => z (ez.mp ((q2 t0).symm.trans w))) (k113 1 (by rw [hdef, decide_eq_true z]; rfl))
    · rw [if_pos t1] at hdef
      have e6 : nI j + 1 = nI (j + 1) := nI_1 j
      by_cases z : vv = nI (j + 1)
      · exact br_t ((q3 t0).trans (z.trans e6.symm)) (k113 1 (by rw [hdef, decide_eq_true z]; rfl))
      · exact br_f (fun w => z ((q3 t0).symm.trans (w.trans e6))) (k113 0 (by rw [hdef, decide_eq_false z]; rfl))
    · rw [if_neg t1] at hdef
      have t2 : ex_ty (K t) = 2 := by omega
      have h01' := h01 t2 k (nI (j + 1)) (nI n0)
      rw [hvv] at h01'
      rcases h01' with z | z
      · exact br_f (fun w => by have := (q3 t0).symm.trans w; rw [z] at this; exact absurd this (by decide)) (k113 0 (by rw [hdef, decide_eq_false (fun w => w z)]; rfl))
      · exact br_t ((q3 t0).trans z) (k113 1 (by rw [hdef, decide_eq_true (by rw [z]; decide)]; rfl))
theorem ty_sift (W : tr_TW c r D nm) (T : yy_t g_count b_row b_depth b_name b_value c r D nm va) {s : Nat} (hs : s < 8) (E : ex_E n K V) (S : yy_sl (40 * s) n K V b_kind b_with)
    {t : Nat} (ht : t < n) (hT : yy_st c r D nm va (40 * s) n K V t b_sets) {post : SY → Prop} {L : List Nat} (hb : ∀ k, k ∈ L → k < c) (hl : L.length ≤ 24) (hg : g_listed = nI L.length) (hL : yy_ar r b_list 0 L)
    (hp : ∀ tp ty nu se li, yy_ar r li 0 (sm_sift (sm_h c D nm va n K V t (nI L.length)) L 0) → post (g_count, tp, nI (sm_sift (sm_h c D nm va n K V t (nI L.length)) L 0).length, g_outputs, b_row, b_depth, b_name, b_value, b_moved, b_kind, b_with, b_length, b_sets, b_fresh, ty, nu, se, li, b_there, b_match, b_priority, b_out, b_on, b_todo, b_within, b_output)) : wpY_sift post (g_count, g_top, g_listed, g_outputs, b_row, b_depth, b_name, b_value, b_moved, b_kind, b_with, b_length, b_sets, b_fresh, b_type, b_number, b_set, b_list, b_there, b_match, b_priority, b_out, b_on, b_todo, b_within, b_output) (nI s) (nI t) := by
  subst hg
  have h := ty_sift_loop W T hs E S ht hT (n0 := L.length) (M := sm_sift (sm_h c D nm va n K V t (nI L.length)) L 0) hl hp L 0 [] g_top b_type b_number b_set b_list (by omega) (by simp) hb hL trivial rfl
  rw [nI_0] at h
  exact ⟨_, h⟩
end
end
section
/-! ===== Y.isOn, Y.step ===== -/
theorem lb_narrow (b : Bool) : narrow .boolean (.int (lb b)) = .int (lb b) := by cases b <;> rfl
def sm_sf (tu : Bool) (c : Nat) : Nat → List Nat
  | 0 => []
  | d + 1 => (if tu = true then d else c - (d + 1)) :: sm_sf tu c d
theorem sm_sf_t (c : Nat) : ∀ d, sm_sf true c d = (List.range d).reverse
  | 0 => rfl
  | d + 1 => by
    rw [List.range_succ, List.reverse_append]
    show d :: sm_sf true c d = d :: (List.range d).reverse
    rw [sm_sf_t c d]
theorem sm_sf_f (c : Nat) : ∀ d, d ≤ c → sm_sf false c d = List.range' (c - d) d
  | 0, _ => rfl
  | d + 1, h => by
    show (c - (d + 1)) :: sm_sf false c d = _
    rw [sm_sf_f c d (by omega), List.range'_succ, show c - (d + 1) + 1 = c - d by omega]
theorem sm_sf_ord {c : Nat} (hc : c ≤ 24) (tu : Bool) (P : Nat → Bool) : (sm_sf tu c c).filter P = sm_ord tu (bs_fs c P) := by
  cases tu
  · rw [sm_sf_f c c (Nat.le_refl _), Nat.sub_self]
    show _ = bs_els (bs_fs c P)
    rw [bs_fs_els hc, List.range_eq_range']
  · rw [sm_sf_t]
    show _ = (bs_els (bs_fs c P)).reverse
    rw [bs_fs_els hc, List.filter_reverse]
theorem sm_ord_bo {tu : Bool} {L : List Nat} (h : if tu = true then L.Pairwise (· > ·) else L.Pairwise (· < ·)) (hb : ∀ k, k ∈ L → k < 24) : sm_ord tu (bs_bo L) = L := by
  cases tu
  · exact bs_els_bo h hb
  · show (bs_els (bs_bo L)).reverse = L
    have e : bs_bo L = bs_bo L.reverse := by
      apply b_ext
      intro i _
      rw [bs_bo_bt (fun k hk => by have := hb k hk; omega), bs_bo_bt (fun k hk => by have := hb k (List.mem_reverse.mp hk); omega)]
      by_cases z : i ∈ L
      · rw [decide_eq_true z, decide_eq_true (List.mem_reverse.mpr z)]
      · rw [decide_eq_false z, decide_eq_false (fun w => z (List.mem_reverse.mp w))]
    rw [e, bs_els_bo (List.pairwise_reverse.mpr h) (fun k hk => hb k (List.mem_reverse.mp hk)), List.reverse_reverse]
theorem sm_ord_len {tu : Bool} {s : Int32} : (sm_ord tu s).length = (bs_els s).length := by
  cases tu
  · rfl
  · exact List.length_reverse
section
variable {c : Nat} {r D nm : Nat → Nat} {va : Nat → Int32} {g_count g_top g_listed g_outputs : Int32} {b_row b_depth b_name b_value b_moved b_kind b_with b_length b_sets b_fresh b_type b_number b_set b_list b_there b_match b_priority b_out b_on b_todo b_within b_output : Nat → Int32}
theorem ty_isOn (W : tr_TW c r D nm) (T : yy_t g_count b_row b_depth b_name b_value c r D nm va) {post : Int32 → Prop} {a x k : Nat} (ha : a ≤ 10) (hx : x < c) (hk : k < c) (hp : post (lb (sm_ax c D a x k))) : wpY_isOn post (g_count, g_top, g_listed, g_outputs, b_row, b_depth, b_name, b_value, b_moved, b_kind, b_with, b_length, b_sets, b_fresh, b_type, b_number, b_set, b_list, b_there, b_match, b_priority, b_out, b_on, b_todo, b_within, b_output) (nI a) (nI (r x)) (nI (r k)) := by
  have hc := W.1
  have hr := W.2.1
  have hrx := hr x hx
  have hrk := hr k hk
  have TT : yy_T (g_count, g_top, g_listed, g_outputs, b_row, b_depth, b_name, b_value, b_moved, b_kind, b_with, b_length, b_sets, b_fresh, b_type, b_number, b_set, b_list, b_there, b_match, b_priority, b_out, b_on, b_todo, b_within, b_output) c r D nm va := T
  have hDx := tr_TWD W hx
  have hDk := tr_TWD W hk
  obtain ⟨bx1, bx2, bx3, bx4⟩ := tr_be_spec (D := D) hx
  obtain ⟨bk1, bk2, bk3, bk4⟩ := tr_be_spec (D := D) hk
  have same : nI (r k) = nI (r x) ↔ k = x := by
    rw [nI_eq (by omega) (by omega)]
    exact ⟨fun z => W.2.2.1 k x hk hx z, fun z => by rw [z]⟩
  have isp : nI (r k) = tr_nd r (tr_pr D x) ↔ tr_pr D x = some k := by
    cases e : tr_pr D x with
    | none =>
      constructor
      · intro z
        have z : nI (r k) = -1 := z
        have h0 : ¬ nI (r k) < 0 := nI_pos (by omega)
        rw [z] at h0
        exact absurd (by decide) h0
      · intro z; exact absurd z (by simp)
    | some p =>
      have hp := (tr_pr_some e).1
      have := hr p (by omega)
      show nI (r k) = nI (r p) ↔ _
      rw [nI_eq (by omega) (by omega)]
      exact ⟨fun z => by rw [W.2.2.1 k p hk (by omega) z], fun z => by rw [Option.some.inj z]⟩
  have par : tr_pr D k = some x ↔ (x < k ∧ k < tr_be c D x) ∧ D k = D x + 1 := by
    constructor
    · intro z
      obtain ⟨q1, q2, q3⟩ := (tr_Pa_be W.2.2.2.1 hk).mp (tr_pr_some z)
      exact ⟨⟨q1, q2⟩, q3⟩
    · rintro ⟨⟨q1, q2⟩, q3⟩
      exact tr_pr_of ((tr_Pa_be W.2.2.2.1 hk).mpr ⟨q1, q2, q3⟩)
  have eqx : k = x → (post 1 → post (lb (decide (k = x)))) ∧ True := fun _ => ⟨fun h => by simp_all [lb], trivial⟩
  have ans : ∀ {P : Prop} [Decidable P] {b : Bool}, sm_ax c D a x k = b → (b = true ↔ P) → (P → post 1) ∧ (¬ P → post 0) := by
    intro P _ b e hb
    rw [e] at hp
    cases b
    · exact ⟨fun z => absurd (hb.mpr z) (by decide), fun _ => hp⟩
    · exact ⟨fun _ => hp, fun z => absurd (hb.mp rfl) z⟩
  have k91 : wY_isOn_91 post (nI a) (nI (r x)) (nI (r k)) (nI x) (nI k) (lb (decide (x < k ∧ k < tr_be c D x))) (lb (decide (k < x ∧ x < tr_be c D k))) (tr_nd r (tr_pr D x)) (lb (decide (tr_pr D x ≠ none ∧ tr_pr D x = tr_pr D k))) g_count g_top g_listed g_outputs b_row b_depth b_name b_value b_moved b_kind b_with b_length b_sets b_fresh b_type b_number b_set b_list b_there b_match b_priority b_out b_on b_todo b_within b_output := by
    have orself : ∀ (P Q : Prop) [Decidable P] [Decidable Q], sm_ax c D a x k = decide (P ∨ Q) → (nI (r k) = nI (r x) ↔ Q) → ((lb (decide P) = 0 → ((nI (r k) = nI (r x) → post 1) ∧ (¬ nI (r k) = nI (r x) → post 0))) ∧ (¬ lb (decide P) = 0 → post 1)) := by
      intro P Q _ _ e hq
      rw [e] at hp
      by_cases z : P
      · rw [decide_eq_true z]
        rw [decide_eq_true (Or.inl z)] at hp
        exact br_f (by decide) hp
      · rw [decide_eq_false z]
        refine br_t rfl ?_
        by_cases y : Q
        · rw [decide_eq_true (Or.inr y)] at hp
          exact br_t (hq.mpr y) hp
        · rw [decide_eq_false (fun w => w.elim z y)] at hp
          exact br_f (fun w => y (hq.mp w)) hp
    refine pk_lt a 0 (fun z => by omega) (fun _ => pk_lt 9 a (fun z => ?_) (fun _ => pk_eq a 0 (fun e => ?_) (fun n0 => pk_eq a 1 (fun e => ?_) (fun n1 => pk_eq a 2 (fun e => ?_) (fun n2 => pk_eq a 3 (fun e => ⟨lb_narrow _, ?_⟩) (fun n3 => pk_eq a 4 (fun e => ⟨lb_narrow _, ?_⟩) (fun n4 => pk_eq a 5 (fun e => ?_) (fun n5 => pk_eq a 6 (fun e => ?_) (fun n6 => pk_eq a 7 (fun e => ?_) (fun n7 => pk_eq a 8 (fun e => ?_) (fun n8 => pk_eq a 9 (fun e => ?_) (fun n9 => by omega))))))))))))
    · have e10 : a = 10 := by omega
      refine orself (k < x ∧ x < tr_be c D k) (k = x) ?_ same
      rw [e10]
      show decide (k ≤ x ∧ x < tr_be c D k) = _
      by_cases z : k ≤ x ∧ x < tr_be c D k
      · rw [decide_eq_true z, decide_eq_true (by omega)]
      · rw [decide_eq_false z, decide_eq_false (by
          intro w
          rcases w with w | w
          · omega
          · subst w; omega)]
    · rw [e] at hp
      have hp : post (lb (decide (k = x))) := hp
      by_cases z : k = x
      · rw [decide_eq_true z] at hp; exact br_t (same.mpr z) hp
      · rw [decide_eq_false z] at hp; exact br_f (fun w => z (same.mp w)) hp
    · rw [e] at hp
      have hp : post (lb (decide (tr_pr D k = some x))) := hp
      by_cases z : x < k ∧ k < tr_be c D x
      · rw [decide_eq_true z]
        refine br_f (by decide) ⟨pk_in (r k) 24 hrk, pk_in (r x) 24 hrx, ?_⟩
        have e1 : b_depth (nI (r k)).toNatClampNeg = nI (D k) := by rw [nI_clamp (by omega)]; exact (T.2 k hk).2.1
        have e2 : b_depth (nI (r x)).toNatClampNeg + 1 = nI (D x + 1) := by rw [nI_clamp (by omega), (T.2 x hx).2.1]; exact nI_1 _
        refine pk_eq (D k) (D x + 1) (fun y => ?_) (fun y => ?_) e1 e2
        · rw [decide_eq_true (par.mpr ⟨z, y⟩)] at hp; exact hp
        · rw [decide_eq_false (fun w => y (par.mp w).2)] at hp; exact hp
      · rw [decide_eq_false z]
        rw [decide_eq_false (fun w => z (par.mp w).1)] at hp
        exact br_t rfl hp
    · rw [e] at hp
      have hp : post (lb (decide (tr_pr D x = some k))) := hp
      by_cases z : tr_pr D x = some k
      · rw [decide_eq_true z] at hp; exact br_t (isp.mpr z) hp
      · rw [decide_eq_false z] at hp; exact br_f (fun w => z (isp.mp w)) hp
    · rw [e] at hp; exact hp
    · rw [e] at hp; exact hp
    · rw [e] at hp
      have hp : post (lb (decide (x < k ∧ tr_pr D x ≠ none ∧ tr_pr D x = tr_pr D k))) := hp
      by_cases z : tr_pr D x ≠ none ∧ tr_pr D x = tr_pr D k
      · rw [decide_eq_true z]
        refine br_f (by decide) (pk_le k x (fun y => ?_) (fun y => ?_))
        · rw [decide_eq_false (fun w => by omega)] at hp; exact hp
        · rw [decide_eq_true ⟨y, z⟩] at hp; exact hp
      · rw [decide_eq_false z]
        rw [decide_eq_false (fun w => z w.2)] at hp
        exact br_t rfl hp
    · rw [e] at hp
      have hp : post (lb (decide (k < x ∧ tr_pr D x ≠ none ∧ tr_pr D x = tr_pr D k))) := hp
      by_cases z : tr_pr D x ≠ none ∧ tr_pr D x = tr_pr D k
      · rw [decide_eq_true z]
        refine br_f (by decide) (pk_le x k (fun y => ?_) (fun y => ?_))
        · rw [decide_eq_false (fun w => by omega)] at hp; exact hp
        · rw [decide_eq_true ⟨y, z⟩] at hp; exact hp
      · rw [decide_eq_false z]
        rw [decide_eq_false (fun w => z w.2)] at hp
        exact br_t rfl hp
    · rw [e] at hp
      have hp : post (lb (decide (tr_be c D x ≤ k))) := hp
      refine pk_le k x (fun y => ?_) (fun y => ?_)
      · rw [decide_eq_false (by omega)] at hp; exact hp
      · by_cases z : x < k ∧ k < tr_be c D x
        · rw [decide_eq_true z]
          rw [decide_eq_false (by omega)] at hp
          exact br_f (by decide) hp
        · rw [decide_eq_false z]
          rw [decide_eq_true (by omega)] at hp
          exact br_t rfl hp
    · rw [e] at hp
      have hp : post (lb (decide (k < x ∧ ¬ x < tr_be c D k))) := hp
      refine pk_le x k (fun y => ?_) (fun y => ?_)
      · rw [decide_eq_false (by omega)] at hp; exact hp
      · by_cases z : k < x ∧ x < tr_be c D k
        · rw [decide_eq_true z]
          rw [decide_eq_false (by omega)] at hp
          exact br_f (by decide) hp
        · rw [decide_eq_false z]
          rw [decide_eq_true (by omega)] at hp
          exact br_t rfl hp
    · refine orself (x < k ∧ k < tr_be c D x) (k = x) ?_ same
      rw [e]
      show decide (x ≤ k ∧ k < tr_be c D x) = _
      by_cases z : x ≤ k ∧ k < tr_be c D x
      · rw [decide_eq_true z, decide_eq_true (by omega)]
      · rw [decide_eq_false z, decide_eq_false (by
          intro w
          rcases w with w | w
          · omega
          · subst w; omega)]
  have k62 : wY_isOn_62 post (nI a) (nI (r x)) (nI (r k)) (nI x) (nI k) (lb (decide (x < k ∧ k < tr_be c D x))) (lb (decide (k < x ∧ x < tr_be c D k))) g_count g_top g_listed g_outputs b_row b_depth b_name b_value b_moved b_kind b_with b_length b_sets b_fresh b_type b_number b_set b_list b_there b_match b_priority b_out b_on b_todo b_within b_output := by
    unfold wY_isOn_62
    refine ty_parentOf (v := (g_count, g_top, g_listed, g_outputs, b_row, b_depth, b_name, b_value, b_moved, b_kind, b_with, b_length, b_sets, b_fresh, b_type, b_number, b_set, b_list, b_there, b_match, b_priority, b_out, b_on, b_todo, b_within, b_output)) W TT hx ?_
    cases e : tr_pr D x with
    | none =>
      refine br_t (show (-1 : Int32) < 0 by decide) ?_
      have h := k91
      rw [e, decide_eq_false (fun w : (none : Option Nat) ≠ none ∧ none = tr_pr D k => w.1 rfl)] at h
      exact h
    | some p =>
      have hpx := (tr_pr_some e).1
      have hrp := hr p (by omega)
      refine br_f (show ¬ nI (r p) < 0 from nI_pos (by omega)) (ty_parentOf (v := (g_count, g_top, g_listed, g_outputs, b_row, b_depth, b_name, b_value, b_moved, b_kind, b_with, b_length, b_sets, b_fresh, b_type, b_number, b_set, b_list, b_there, b_match, b_priority, b_out, b_on, b_todo, b_within, b_output)) W TT hk ?_)
      have h := k91
      rw [e] at h
      have iff : tr_nd r (some p) = tr_nd r (tr_pr D k) ↔ some p = tr_pr D k := by
        cases e2 : tr_pr D k with
        | none =>
          constructor
          · intro z
            have z : nI (r p) = -1 := z
            have h0 : ¬ nI (r p) < 0 := nI_pos (by omega)
            rw [z] at h0
            exact absurd (by decide) h0
          · intro z; exact absurd z (by simp)
        | some p2 =>
          have := (tr_pr_some e2).1
          have := hr p2 (by omega)
          show nI (r p) = nI (r p2) ↔ _
          rw [nI_eq (by omega) (by omega)]
          exact ⟨fun z => by rw [W.2.2.1 p p2 (by omega) (by omega) z], fun z => by rw [Option.some.inj z]⟩
      by_cases z : some p = tr_pr D k
      · rw [decide_eq_true (⟨by simp, z⟩ : some p ≠ none ∧ some p = tr_pr D k)] at h
        exact br_t (iff.mpr z) h
      · rw [decide_eq_false (fun w : some p ≠ none ∧ some p = tr_pr D k => z w.2)] at h
        exact br_f (fun w => z (iff.mp w)) h
  have k37 : ∀ z0 : Int32, z0 = lb (decide (x < k ∧ k < tr_be c D x)) → wY_isOn_37 post (nI a) (nI (r x)) (nI (r k)) (nI x) (nI k) z0 g_count g_top g_listed g_outputs b_row b_depth b_name b_value b_moved b_kind b_with b_length b_sets b_fresh b_type b_number b_set b_list b_there b_match b_priority b_out b_on b_todo b_within b_output := by
    intro z0 hz
    subst hz
    refine pk_le x k (fun y => ?_) (fun y => ty_behind (v := (g_count, g_top, g_listed, g_outputs, b_row, b_depth, b_name, b_value, b_moved, b_kind, b_with, b_length, b_sets, b_fresh, b_type, b_number, b_set, b_list, b_there, b_match, b_priority, b_out, b_on, b_todo, b_within, b_output)) W TT hk (pk_le (tr_be c D k) x (fun q => ?_) (fun q => ?_)))
    · have h := k62
      rw [decide_eq_false (fun w : k < x ∧ x < tr_be c D k => by omega)] at h
      exact h
    · have h := k62
      rw [decide_eq_false (fun w : k < x ∧ x < tr_be c D k => by omega)] at h
      exact h
    · have h := k62
      rw [decide_eq_true (⟨y, q⟩ : k < x ∧ x < tr_be c D k)] at h
      exact h
  unfold wpY_isOn
  refine ty_where1 (v := (g_count, g_top, g_listed, g_outputs, b_row, b_depth, b_name, b_value, b_moved, b_kind, b_with, b_length, b_sets, b_fresh, b_type, b_number, b_set, b_list, b_there, b_match, b_priority, b_out, b_on, b_todo, b_within, b_output)) W TT hx (ty_where1 (v := (g_count, g_top, g_listed, g_outputs, b_row, b_depth, b_name, b_value, b_moved, b_kind, b_with, b_length, b_sets, b_fresh, b_type, b_number, b_set, b_list, b_there, b_match, b_priority, b_out, b_on, b_todo, b_within, b_output)) W TT hk (pk_le k x (fun y => k37 0 ?_) (fun y => ty_behind (v := (g_count, g_top, g_listed, g_outputs, b_row, b_depth, b_name, b_value, b_moved, b_kind, b_with, b_length, b_sets, b_fresh, b_type, b_number, b_set, b_list, b_there, b_match, b_priority, b_out, b_on, b_todo, b_within, b_output)) W TT hx (pk_le (tr_be c D x) k (fun q => k37 0 ?_) (fun q => k37 1 ?_)))))
  · rw [decide_eq_false (fun w : x < k ∧ k < tr_be c D x => by omega)]; rfl
  · rw [decide_eq_false (fun w : x < k ∧ k < tr_be c D x => by omega)]; rfl
  · rw [decide_eq_true (⟨y, q⟩ : x < k ∧ k < tr_be c D x)]; rfl
end
section
variable {c : Nat} {r D nm : Nat → Nat} {va : Nat → Int32} {n : Nat} {K : Nat → Nat} {V : Nat → Int32} {g_count g_top g_listed g_outputs : Int32} {b_row b_depth b_name b_value b_moved b_kind b_with b_length b_sets b_fresh b_type b_number b_set b_list b_there b_match b_priority b_out b_on b_todo b_within b_output : Nat → Int32}
theorem ty_step209 {post : Int32 → SY → Prop} {n0 : Nat} (hg : g_listed = nI n0) (hn0 : n0 ≤ 24) (hr : ∀ i, i < c → r i < 24) {v : Int32} (hp : post v (g_count, g_top, g_listed, g_outputs, b_row, b_depth, b_name, b_value, b_moved, b_kind, b_with, b_length, b_sets, b_fresh, b_type, b_number, b_set, b_list, b_there, b_match, b_priority, b_out, b_on, b_todo, b_within, b_output)) : ∀ (L : List Nat) (j : Nat) (acc : Int32), j + L.length = n0 → (∀ k, k ∈ L → k < c) → yy_ar r b_list j L → v = acc ||| bs_bo (L.map r) → wY_step_209 post g_count g_top g_listed g_outputs b_row b_depth b_name b_value b_moved b_kind b_with b_length b_sets b_fresh b_type b_number b_set b_list b_there b_match b_priority b_out b_on b_todo b_within b_output (L.length + 1) acc (nI j) := by
  intro L
  induction L with
  | nil =>
    intro j acc hj _ _ hv
    have e : acc = v := by
      rw [hv]
      show acc = acc ||| 0
      rw [Int32.or_zero]
    rw [List.length_nil] at hj
    rw [e]
    exact pk_le n0 j (fun _ => hp) (fun z => by omega) hg
  | cons k L ih =>
    intro j acc hj hb hL hv
    rw [List.length_cons] at hj
    have e1 : acc ||| ((1 : Int32) <<< (b_list (nI j).toNatClampNeg &&& 31)) = acc ||| bs_oh (r k) := by rw [nI_clamp (by omega), hL.1]; rfl
    refine pk_le n0 j (fun z => by omega) (fun _ => ⟨pk_in j 24 (by omega), nm_r e1 (nm_r (nI_1 j) (ih (j + 1) _ (by omega) (fun q hq => hb q (List.mem_cons_of_mem _ hq)) hL.2 ?_))⟩) hg
    rw [hv]
    show acc ||| (bs_oh (r k) ||| bs_bo (L.map r)) = (acc ||| bs_oh (r k)) ||| bs_bo (L.map r)
    rw [Int32.or_assoc]
theorem ty_step167 (W : tr_TW c r D nm) (T : yy_t g_count b_row b_depth b_name b_value c r D nm va) {s : Nat} (hs : s < 8) (E : ex_E n K V) (S : yy_sl (40 * s) n K V b_kind b_with)
    {i w : Nat} {tu : Bool} (hw : w < 384) (hT : yy_st c r D nm va (40 * s) n K V (i + 1) b_sets) {post : Int32 → SY → Prop} {fs : Int32} (hp : ∀ (g_top' g_listed' : Int32) (b_type' b_number' b_set' b_list' : Nat → Int32), post (sm_im r fs) (g_count, g_top', g_listed', g_outputs, b_row, b_depth, b_name, b_value, b_moved, b_kind, b_with, b_length, b_sets, b_fresh, b_type', b_number', b_set', b_list', b_there, b_match, b_priority, b_out, b_on, b_todo, b_within, b_output)) :
    ∀ m t q ss g_top' g_listed' b_type' b_number' b_set' b_list', q + m = w / 128 → i < t → (∀ j, j < m → ex_hop (ex_B n K V) j t < n) → bs_ok c ss → g_listed' = nI (sm_ord tu ss).length → yy_ar r b_list' 0 (sm_ord tu ss) → fs = sm_tests (sm_ev c D nm va n K V) K (ex_B n K V) tu m t ss →
      wY_step_167 post (nI s) (nI w) (m + 1) (nI (40 * s + t)) (nI q) g_count g_top' g_listed' g_outputs b_row b_depth b_name b_value b_moved b_kind b_with b_length b_sets b_fresh b_type' b_number' b_set' b_list' b_there b_match b_priority b_out b_on b_todo b_within b_output := by
  have hc := W.1
  have hn := E.2.1
  have hBl := fun x => ex_B_lt (n := n) (K := K) (V := V) x
  have e8 : nI w >>> ((7 : Int32) &&& 31) = nI (w / 128) := pk_shrN (by omega) ((7 : Int32) &&& 31) 7 (by decide)
  have hlen : ∀ ss, bs_ok c ss → (sm_ord tu ss).length ≤ 24 := by
    intro ss h
    rw [sm_ord_len]
    have := List.length_filter_le (fun i => bt ss i) (List.range 24)
    rw [List.length_range] at this
    exact this
  intro m
  induction m with
  | zero =>
    intro t q ss g_top' g_listed' b_type' b_number' b_set' b_list' hq hit hh hok hg hL hf
    have hf : fs = ss := hf
    refine pk_le (w / 128) q (fun _ => ?_) (fun z => by omega) e8
    have h := ty_step209 (g_top := g_top') (b_type := b_type') (b_number := b_number') (b_set := b_set') (c := c) (v := sm_im r fs) (post := post) hg (hlen ss hok) W.2.1 (hp _ _ _ _ _ _) (sm_ord tu ss) 0 0 (by omega) (fun k hk => bs_ok_els hok (sm_ord_mem.mp hk)) hL (by
      rw [Int32.zero_or, im_bo hc W.2.1 W.2.2.1 (fun k hk => bs_ok_els hok (sm_ord_mem.mp hk)), bs_bo_ord hok hc, hf])
    rw [nI_0] at h
    exact ⟨_, h⟩
  | succ m ih =>
    intro t q ss g_top' g_listed' b_type' b_number' b_set' b_list' hq hit hh hok hg hL hf
    have ht : t < n := hh 0 (by omega)
    refine pk_le (w / 128) q (fun z => by omega) (fun _ => ?_) e8
    have e1 : nI (40 * s + t) - (40 : Int32) * nI s = nI t := by rw [x40, pk_sub (by omega)]; congr 1; omega
    refine ek_v (P := fun z => wpY_sift _ _ _ z) e1 (ty_sift W T hs E S ht (fun j a b d x hx => hT j (by omega) b d x hx) (fun k hk => bs_ok_els hok (sm_ord_mem.mp hk)) (hlen ss hok) hg hL (fun tp ty nu se li hli => ?_))
    refine ty_endOf (o := 40 * s) (by omega) E S ht (nm_r (nI_1 q) (ih (ex_B n K V t) (q + 1) (sm_test (sm_ev c D nm va n K V) K tu t ss) _ _ _ _ _ _ (by omega) (by have := hBl t; omega) (fun j hj => hh (j + 1) (by omega)) (sm_test_ok hc hok) ?_ ?_ hf))
    · have e : sm_ord tu (sm_test (sm_ev c D nm va n K V) K tu t ss) = sm_sift (sm_h c D nm va n K V t (nI (sm_ord tu ss).length)) (sm_ord tu ss) 0 := by
        rw [sm_ord_len]
        refine sm_ord_bo ?_ (fun k hk => by have := bs_ok_els hok (sm_ord_mem.mp (sm_sift_mem _ _ k hk)); omega)
        have := sm_ord_pw tu ss
        cases tu
        · exact sm_sift_pw _ _ this
        · exact sm_sift_pw _ _ this
      rw [e]
    · have e : sm_ord tu (sm_test (sm_ev c D nm va n K V) K tu t ss) = sm_sift (sm_h c D nm va n K V t (nI (sm_ord tu ss).length)) (sm_ord tu ss) 0 := by
        rw [sm_ord_len]
        refine sm_ord_bo ?_ (fun k hk => by have := bs_ok_els hok (sm_ord_mem.mp (sm_sift_mem _ _ k hk)); omega)
        have := sm_ord_pw tu ss
        cases tu
        · exact sm_sift_pw _ _ this
        · exact sm_sift_pw _ _ this
      rw [e]; exact hli
theorem ty_step (W : tr_TW c r D nm) (T : yy_t g_count b_row b_depth b_name b_value c r D nm va) {s : Nat} (hs : s < 8) (E : ex_E n K V) (S : yy_sl (40 * s) n K V b_kind b_with)
    {i x : Nat} (hi : i < n) (hK2 : K i = 2) (hx : x < c) (hT : yy_st c r D nm va (40 * s) n K V (i + 1) b_sets) {post : Int32 → SY → Prop}
    (hp : ∀ (g_top' g_listed' : Int32) (b_type' b_number' b_set' b_list' : Nat → Int32), post (sm_im r (sm_al c D nm (sm_ev c D nm va n K V) K (ex_B n K V) (V i).toNatClampNeg i x)) (g_count, g_top', g_listed', g_outputs, b_row, b_depth, b_name, b_value, b_moved, b_kind, b_with, b_length, b_sets, b_fresh, b_type', b_number', b_set', b_list', b_there, b_match, b_priority, b_out, b_on, b_todo, b_within, b_output)) : wpY_step post (g_count, g_top, g_listed, g_outputs, b_row, b_depth, b_name, b_value, b_moved, b_kind, b_with, b_length, b_sets, b_fresh, b_type, b_number, b_set, b_list, b_there, b_match, b_priority, b_out, b_on, b_todo, b_within, b_output) (nI s) (nI i) (nI (r x)) := by
  have hc := W.1
  have hn := E.2.1
  have hr := W.2.1
  have hBl := fun x => ex_B_lt (n := n) (K := K) (V := V) x
  have tok := E.2.2.2.1 i hi
  obtain ⟨ew, hw, hw1, hw2⟩ := tok.2 hK2
  obtain ⟨o1, o2, o3⟩ := E.2.2.2.2 i hi
  have har : ex_ar (K i) (V i) = 1 + (V i).toNatClampNeg / 128 := by unfold ex_ar; rw [if_neg (by omega), if_pos hK2]
  rw [har] at o2
  have hi1 : i + 1 < n := o2 0 (by omega)
  have e1 : (40 : Int32) * nI s + nI i = nI (40 * s + i) := by rw [x40, nI_add]
  have evw : b_with ((40 : Int32) * nI s + nI i).toNatClampNeg = nI (V i).toNatClampNeg := by rw [cl_n e1 (by omega), (S i hi).2]; exact ew
  generalize hwd : (V i).toNatClampNeg = w at *
  have e15 : nI w &&& 15 = nI (w % 16) := pk_andN (by omega) 4 (by decide)
  have e7 : (nI w >>> ((4 : Int32) &&& 31)) &&& 7 = nI (w / 16 % 8) := by
    rw [pk_shrN (by omega) ((4 : Int32) &&& 31) 4 (by decide)]
    exact pk_andN (by omega) 3 (by decide)
  -- after the list
  have fin : ∀ li : Nat → Int32, yy_ar r li 0 (sm_ord (sm_tu w) (sm_base c D nm w x)) → wpY_endOf (fun r_7 => ∃ n167 : Nat, wY_step_167 post (nI s) (nI w) n167 r_7 0 g_count g_top (nI (sm_ord (sm_tu w) (sm_base c D nm w x)).length) g_outputs b_row b_depth b_name b_value b_moved b_kind b_with b_length b_sets b_fresh b_type b_number b_set li b_there b_match b_priority b_out b_on b_todo b_within b_output) (g_count, g_top, nI (sm_ord (sm_tu w) (sm_base c D nm w x)).length, g_outputs, b_row, b_depth, b_name, b_value, b_moved, b_kind, b_with, b_length, b_sets, b_fresh, b_type, b_number, b_set, li, b_there, b_match, b_priority, b_out, b_on, b_todo, b_within, b_output) (40 * nI s + nI i + 1) := by
    intro li hli
    have e2 : (40 : Int32) * nI s + nI i + 1 = nI (40 * s + (i + 1)) := by rw [e1, nI_1]; rfl
    rw [e2]
    refine ty_endOf (o := 40 * s) (by omega) E S hi1 ?_
    have h := ty_step167 W T hs E S (tu := sm_tu w) (by omega) hT hp (w / 128) (ex_B n K V (i + 1)) 0 (sm_base c D nm w x) g_top (nI (sm_ord (sm_tu w) (sm_base c D nm w x)).length) b_type b_number b_set li (by omega) (by have := hBl (i + 1); omega) (fun j hj => o2 (j + 1) (by omega)) (sm_base_ok hc) rfl hli rfl
    rw [nI_0] at h
    exact ⟨_, h⟩
  -- the list
  have loop : ∀ tu : Bool, tu = sm_tu w → ∀ d j R li, j + d = c → R.length ≤ j → yy_ar r li 0 R → sm_ord tu (sm_base c D nm w x) = R ++ (sm_sf tu c d).filter (fun k => sm_ax c D (w % 16) x k && (decide (w / 16 % 8 = 6) || decide (nm k = w / 16 % 8))) →
      wY_step_56 post (nI s) (nI i) (nI (r x)) (nI w) (nI (w % 16)) (lb tu) (nI (w / 16 % 8)) g_count g_top g_outputs (d + 1) (nI j) (nI R.length) b_row b_depth b_name b_value b_moved b_kind b_with b_length b_sets b_fresh b_type b_number b_set li b_there b_match b_priority b_out b_on b_todo b_within b_output := by
    intro tu htu d
    induction d with
    | zero =>
      intro j R li hj hR h2 hM
      have e : sm_ord tu (sm_base c D nm w x) = R := by rw [hM]; exact List.append_nil R
      rw [htu] at e
      refine pk_le c j (fun _ => ?_) (fun z => by omega) T.1
      rw [← e] at h2 ⊢
      exact fin li h2
    | succ d ih =>
      intro j R li hj hR h2 hM
      have hpos : ∃ k, k < c ∧ (if tu = true then d else c - (d + 1)) = k := ⟨_, by cases tu <;> simp <;> omega, rfl⟩
      obtain ⟨k, hk, ek⟩ := hpos
      have hrk := hr k hk
      have hnm := W.2.2.2.2 k hk
      have hsf : sm_sf tu c (d + 1) = k :: sm_sf tu c d := by show (if tu = true then d else c - (d + 1)) :: _ = _; rw [ek]
      rw [hsf] at hM
      obtain ⟨t1, t2, t3, t4⟩ := T.2 k hk
      have skip : (sm_ax c D (w % 16) x k && (decide (w / 16 % 8 = 6) || decide (nm k = w / 16 % 8))) = false → wY_step_56 post (nI s) (nI i) (nI (r x)) (nI w) (nI (w % 16)) (lb tu) (nI (w / 16 % 8)) g_count g_top g_outputs (d + 1) (nI (j + 1)) (nI R.length) b_row b_depth b_name b_value b_moved b_kind b_with b_length b_sets b_fresh b_type b_number b_set li b_there b_match b_priority b_out b_on b_todo b_within b_output := by
        intro z
        refine ih (j + 1) R li (by omega) (by omega) h2 ?_
        rw [hM, List.filter_cons, if_neg (by rw [z]; decide)]
      have take : (sm_ax c D (w % 16) x k && (decide (w / 16 % 8 = 6) || decide (nm k = w / 16 % 8))) = true → wY_step_126 post (wY_step_56 post (nI s) (nI i) (nI (r x)) (nI w) (nI (w % 16)) (lb tu) (nI (w / 16 % 8)) g_count g_top g_outputs (d + 1)) (nI s) (nI i) (nI (r x)) (nI w) (nI (w % 16)) (lb tu) (nI (w / 16 % 8)) (nI j) (nI (r k)) g_count g_top (nI R.length) g_outputs b_row b_depth b_name b_value b_moved b_kind b_with b_length b_sets b_fresh b_type b_number b_set li b_there b_match b_priority b_out b_on b_todo b_within b_output := by
        intro z
        refine nm_r (nI_1 _) ⟨pk_in R.length 24 (by omega), nm_r (up_cl (by omega) rfl) (nm_r (nI_1 j) ?_)⟩
        have := ih (j + 1) (R ++ [k]) (upd li R.length (nI (r k))) (by omega) (by rw [List.length_append]; simp; omega) (yy_ar_app R [k] 0 (yy_ar_upd R 0 (Or.inr (by omega)) h2) (by rw [Nat.zero_add]; exact ⟨pk_us, trivial⟩)) (by rw [hM, List.filter_cons, if_pos z, List.append_assoc]; rfl)
        rw [show (R ++ [k]).length = R.length + 1 by rw [List.length_append]; rfl] at this
        exact this
      have k88 : ∀ z0 : Int32, z0 = nI k → wY_step_88 post (wY_step_56 post (nI s) (nI i) (nI (r x)) (nI w) (nI (w % 16)) (lb tu) (nI (w / 16 % 8)) g_count g_top g_outputs (d + 1)) (nI s) (nI i) (nI (r x)) (nI w) (nI (w % 16)) (lb tu) (nI (w / 16 % 8)) (nI j) z0 g_count g_top (nI R.length) g_outputs b_row b_depth b_name b_value b_moved b_kind b_with b_length b_sets b_fresh b_type b_number b_set li b_there b_match b_priority b_out b_on b_todo b_within b_output := by
        intro z0 hz
        subst hz
        have er : b_row (nI k).toNatClampNeg = nI (r k) := by rw [nI_clamp (by omega)]; exact t1
        refine ⟨pk_in k 24 (by omega), nm_r er (ty_isOn W T hw1 hx hk (lb_br (fun h1 => ?_) (fun h0 => ?_)))⟩
        · refine pk_eq (w / 16 % 8) 6 (fun z => take ?_) (fun z => ⟨pk_in (r k) 24 hrk, ?_⟩)
          · rw [h1, decide_eq_true z]; rfl
          · have en : b_name (nI (r k)).toNatClampNeg = nI (nm k) := by rw [nI_clamp (by omega)]; exact t3
            refine pk_eq (nm k) (w / 16 % 8) (fun y => take ?_) (fun y => nm_r (nI_1 j) (skip ?_)) en
            · rw [h1, decide_eq_true y, Bool.or_true]; rfl
            · rw [decide_eq_false z, decide_eq_false y, Bool.or_false, Bool.and_false]
        · exact nm_r (nI_1 j) (skip (by rw [h0, Bool.false_and]))
      refine pk_le c j (fun z => by omega) (fun _ => ?_) T.1
      cases tu with
      | false =>
        have ek : c - (d + 1) = k := ek
        exact br_t rfl (k88 _ (by rw [← ek]; congr 1; omega))
      | true =>
        have ek : d = k := ek
        refine br_f (by decide) (k88 _ ?_)
        have hcnt : g_count = nI c := T.1
        rw [hcnt, show nI c - 1 = nI (c - 1) from pk_sub (b := 1) (by omega), pk_sub (by omega)]
        congr 1
        omega
  have start : ∀ z0 : Int32, z0 = lb (sm_tu w) → wY_step_37 post (nI s) (nI i) (nI (r x)) (nI w) (nI (w % 16)) z0 g_count g_top g_listed g_outputs b_row b_depth b_name b_value b_moved b_kind b_with b_length b_sets b_fresh b_type b_number b_set b_list b_there b_match b_priority b_out b_on b_todo b_within b_output := by
    intro z0 hz
    subst hz
    refine nm_r e7 ⟨c + 1, ?_⟩
    have h := loop (sm_tu w) rfl c 0 [] b_list (by omega) (by simp) trivial (by
      rw [List.nil_append, sm_sf_ord hc]; rfl)
    rw [nI_0] at h
    exact h
  refine ⟨pk_in (40 * s + i) 360 (by omega) e1, nm_r evw (nm_r e15 (pk_le (w % 16) 0 (fun z => start 0 ?_) (fun z => ⟨by decide, ?_⟩)))⟩
  · unfold sm_tu; rw [decide_eq_false (by omega)]; rfl
  · have er : nI (w % 16) - nI (w % 16) / 2 * 2 = nI (w % 16 % 2) := pk_rem (d := 2) (by omega) (by omega) (by omega)
    refine pk_eq (w % 16 % 2) 0 (fun y => start 1 ?_) (fun y => start 0 ?_) er
    · unfold sm_tu; rw [decide_eq_true (by omega)]; rfl
    · unfold sm_tu; rw [decide_eq_false (by omega)]; rfl
end
end
section
/-! ===== Y.prepare, Y.ask ===== -/
theorem sm_or_app {al : Nat → Int32} : ∀ (L M : List Nat), sm_or al (L ++ M) = sm_or al L ||| sm_or al M
  | [], M => by
    show sm_or al M = 0 ||| sm_or al M
    rw [Int32.zero_or]
  | k :: L, M => by
    show al k ||| sm_or al (L ++ M) = (al k ||| sm_or al L) ||| sm_or al M
    rw [sm_or_app L M, Int32.or_assoc]
theorem els_range {c : Nat} {s : Int32} (hc : c ≤ 24) (hs : bs_ok c s) : (List.range c).filter (fun k => bt s k) = bs_els s := by
  apply bs_asc_ext (List.Pairwise.filter _ List.pairwise_lt_range) (bs_els_asc s)
  intro k
  rw [List.mem_filter, List.mem_range, bs_els_mem]
  exact ⟨fun z => ⟨by omega, z.2⟩, fun z => ⟨hs k z.2, z.2⟩⟩
def yy_fr (c : Nat) (r D nm : Nat → Nat) (va : Nat → Int32) (ln : Nat → Nat) (KK : Nat → Nat → Nat) (VV : Nat → Nat → Int32) (fresh sets : Nat → Int32) : Prop :=
  ∀ t, t < 8 → fresh t ≠ 0 → 0 < ln t → yy_st c r D nm va (40 * t) (ln t) (KK t) (VV t) 0 sets
section
variable {c : Nat} {r D nm : Nat → Nat} {va : Nat → Int32} {n : Nat} {K : Nat → Nat} {V : Nat → Int32} {g_count g_top g_listed g_outputs : Int32} {b_row b_depth b_name b_value b_moved b_kind b_with b_length b_sets b_fresh b_type b_number b_set b_list b_there b_match b_priority b_out b_on b_todo b_within b_output : Nat → Int32}
theorem ty_prep226 {s i m : Nat} {all : Int32} (hs : s < 8) (hi : i < 40) (hm : r m < 24) {post : SY → Prop} {J26 J190 : Int32 → Int32 → Int32 → Int32 → Int32 → (Nat → Int32) → (Nat → Int32) → (Nat → Int32) → (Nat → Int32) → (Nat → Int32) → (Nat → Int32) → (Nat → Int32) → (Nat → Int32) → (Nat → Int32) → (Nat → Int32) → (Nat → Int32) → (Nat → Int32) → (Nat → Int32) → (Nat → Int32) → (Nat → Int32) → (Nat → Int32) → (Nat → Int32) → (Nat → Int32) → (Nat → Int32) → (Nat → Int32) → (Nat → Int32) → (Nat → Int32) → Prop} {old : Nat → Int32} (hi2 : 24 * (40 * s + i) + 48 ≤ 7680)
    (hJ : ∀ se, (∀ p, p < 24 → se (24 * (40 * s + i) + p) = if bt (old (24 * (40 * s + i) + 24 + p)) (r m) = true then old (24 * (40 * s + i) + p) ||| all else old (24 * (40 * s + i) + p)) → (∀ k, k < 24 * (40 * s + i) ∨ 24 * (40 * s + i) + 24 ≤ k → se k = old k) → J190 (nI (m + 1)) g_count g_top g_listed g_outputs b_row b_depth b_name b_value b_moved b_kind b_with b_length se b_fresh b_type b_number b_set b_list b_there b_match b_priority b_out b_on b_todo b_within b_output) :
    ∀ d q se, q + d = 24 → (∀ p, p < q → se (24 * (40 * s + i) + p) = if bt (old (24 * (40 * s + i) + 24 + p)) (r m) = true then old (24 * (40 * s + i) + p) ||| all else old (24 * (40 * s + i) + p)) → (∀ k, k < 24 * (40 * s + i) ∨ 24 * (40 * s + i) + q ≤ k → se k = old k) →
      wY_prepare_226 post J26 J190 (nI s) (nI i) 2 (nI (24 * (40 * s + i))) (nI m) (nI (r m)) all g_count g_top g_listed g_outputs (d + 1) (nI q) b_row b_depth b_name b_value b_moved b_kind b_with b_length se b_fresh b_type b_number b_set b_list b_there b_match b_priority b_out b_on b_todo b_within b_output := by
  generalize hbb : 24 * (40 * s + i) = bb at *
  intro d
  induction d with
  | zero =>
    intro q se hq h1 h2
    have e : q = 24 := by omega
    subst e
    exact pk_le 24 24 (fun _ => nm_r (nI_1 m) (hJ se (fun p hp => h1 p hp) (fun k hk => h2 k (by omega)))) (fun z => by omega)
  | succ d ih =>
    intro q se hq h1 h2
    have e1 : nI bb + 24 + nI q = nI (bb + 24 + q) := by
      have : (24 : Int32) = nI 24 := rfl
      rw [this, nI_add, nI_add]
    have e2 : nI bb + nI q = nI (bb + q) := nI_add _ _
    have er : se (nI bb + 24 + nI q).toNatClampNeg = old (bb + 24 + q) := by rw [cl_n e1 (by omega)]; exact h2 _ (by omega)
    have ec : (se (nI bb + 24 + nI q).toNatClampNeg >>> (nI (r m) &&& 31)) &&& 1 = (old (bb + 24 + q) >>> (nI (r m) &&& 31)) &&& 1 := by rw [er]
    refine pk_le 24 q (fun z => by omega) (fun _ => ⟨pk_in (bb + 24 + q) 7680 (by omega) e1, ?_⟩)
    by_cases y : bt (old (bb + 24 + q)) (r m) = true
    · have ev : se (nI bb + nI q).toNatClampNeg ||| all = old (bb + q) ||| all := by rw [cl_n e2 (by omega), h2 _ (by omega)]
      refine br_t (ec.trans ((bs_t1 (by omega)).mpr y)) ⟨pk_in (bb + q) 7680 (by omega) e2, pk_in (bb + q) 7680 (by omega) e2, nm_r (up_n e2 (by omega) ev) (nm_r (nI_1 q) (ih (q + 1) _ (by omega) (fun p hp => ?_) (fun k hk => ?_)))⟩
      · by_cases e : p = q
        · rw [e, pk_us, if_pos y]
        · rw [pk_un (by omega)]; exact h1 p (by omega)
      · rw [pk_un (by omega)]; exact h2 k (by omega)
    · refine br_f (fun z => y ((bs_t1 (by omega)).mp (ec.symm.trans z))) (nm_r (nI_1 q) (ih (q + 1) se (by omega) (fun p hp => ?_) (fun k hk => h2 k (by omega))))
      by_cases e : p = q
      · rw [e, if_neg y]; exact h2 _ (by omega)
      · exact h1 p (by omega)
theorem ty_prep190 (W : tr_TW c r D nm) (T : yy_t g_count b_row b_depth b_name b_value c r D nm va) {s : Nat} (hs : s < 8) (E : ex_E n K V) (S : yy_sl (40 * s) n K V b_kind b_with)
    {i : Nat} (hi : i < n) (hK2 : K i = 2) {post : SY → Prop} {J26 : Int32 → Int32 → Int32 → Int32 → Int32 → (Nat → Int32) → (Nat → Int32) → (Nat → Int32) → (Nat → Int32) → (Nat → Int32) → (Nat → Int32) → (Nat → Int32) → (Nat → Int32) → (Nat → Int32) → (Nat → Int32) → (Nat → Int32) → (Nat → Int32) → (Nat → Int32) → (Nat → Int32) → (Nat → Int32) → (Nat → Int32) → (Nat → Int32) → (Nat → Int32) → (Nat → Int32) → (Nat → Int32) → (Nat → Int32) → (Nat → Int32) → Prop}
    (hT : yy_st c r D nm va (40 * s) n K V (i + 1) b_sets)
    (hJ : ∀ se g_top' g_listed' b_type' b_number' b_set' b_list', yy_st c r D nm va (40 * s) n K V i se → (∀ k, k < 24 * (40 * s + i) ∨ 24 * (40 * s + i) + 24 ≤ k → se k = b_sets k) → J26 (nI i + (-1)) g_count g_top' g_listed' g_outputs b_row b_depth b_name b_value b_moved b_kind b_with b_length se b_fresh b_type' b_number' b_set' b_list' b_there b_match b_priority b_out b_on b_todo b_within b_output) :
    ∀ d m se g_top' g_listed' b_type' b_number' b_set' b_list', m + d = c → (∀ x, x < c → se (24 * (40 * s + i) + r x) = sm_im r (sm_or (sm_al c D nm (sm_ev c D nm va n K V) K (ex_B n K V) (V i).toNatClampNeg i) ((List.range m).filter (fun k => bt (sm_ev c D nm va n K V (i + 1) x 1 1) k)))) → (∀ k, k < 24 * (40 * s + i) ∨ 24 * (40 * s + i) + 24 ≤ k → se k = b_sets k) →
      wY_prepare_190 post J26 (nI s) (nI i) 2 (nI (24 * (40 * s + i))) (d + 1) (nI m) g_count g_top' g_listed' g_outputs b_row b_depth b_name b_value b_moved b_kind b_with b_length se b_fresh b_type' b_number' b_set' b_list' b_there b_match b_priority b_out b_on b_todo b_within b_output := by
  have hc := W.1
  have hn := E.2.1
  have hr := W.2.1
  obtain ⟨o1, o2, o3⟩ := E.2.2.2.2 i hi
  have har : ex_ar (K i) (V i) = 1 + (V i).toNatClampNeg / 128 := by unfold ex_ar; rw [if_neg (by omega), if_pos hK2]
  rw [har] at o2
  have hi1 : i + 1 < n := o2 0 (by omega)
  have t1 := o3.1 hK2
  have okx : ∀ x, x < c → bs_ok c (sm_ev c D nm va n K V (i + 1) x 1 1) := fun x hx => sm_ev_ok hc (by omega) _ (i + 1) (Nat.le_refl _) hi1 E t1 x hx 1 1
  have hst : ∀ se : Nat → Int32, (∀ k, k < 24 * (40 * s + i) ∨ 24 * (40 * s + i) + 24 ≤ k → se k = b_sets k) → yy_st c r D nm va (40 * s) n K V (i + 1) se := by
    intro se h j a b d x hx
    have := hr x hx
    rw [h _ (by omega)]
    exact hT j a b d x hx
  intro d
  induction d with
  | zero =>
    intro m se g_top' g_listed' b_type' b_number' b_set' b_list' hm h1 h2
    have e : m = c := by omega
    subst e
    refine pk_le m m (fun _ => nm_e (hJ se _ _ _ _ _ _ (fun j a b dd x hx => ?_) h2)) (fun z => by omega) T.1
    by_cases e : j = i
    · subst e
      rw [h1 x hx, els_range hc (okx x hx), sm_ev_eq hi]
      unfold sm_F
      rw [if_neg (by omega), if_neg (by omega), if_pos hK2]
    · exact hst se h2 j (by omega) b dd x hx
  | succ d ih =>
    intro m se g_top' g_listed' b_type' b_number' b_set' b_list' hm h1 h2
    have hrm := hr m (by omega)
    have er : b_row (nI m).toNatClampNeg = nI (r m) := by rw [nI_clamp (by omega)]; exact (T.2 m (by omega)).1
    have alok : bs_ok c (sm_al c D nm (sm_ev c D nm va n K V) K (ex_B n K V) (V i).toNatClampNeg i m) := sm_al_ok hc
    refine pk_le c m (fun z => by omega) (fun _ => br_t rfl ⟨pk_in m 24 (by omega), nm_r er (ty_step W T hs E S hi hK2 (x := m) (by omega) (hst se h2) (fun g_top1 g_listed1 b_type1 b_number1 b_set1 b_list1 => ?_))⟩) T.1
    have h := ty_prep226 (r := r) (g_count := g_count) (g_top := g_top1) (g_listed := g_listed1) (g_outputs := g_outputs) (b_row := b_row) (b_depth := b_depth) (b_name := b_name) (b_value := b_value) (b_moved := b_moved) (b_kind := b_kind) (b_with := b_with) (b_length := b_length) (b_fresh := b_fresh) (b_type := b_type1) (b_number := b_number1) (b_set := b_set1) (b_list := b_list1) (b_there := b_there) (b_match := b_match) (b_priority := b_priority) (b_out := b_out) (b_on := b_on) (b_todo := b_todo) (b_within := b_within) (b_output := b_output) (post := post) (J26 := J26) (J190 := wY_prepare_190 post J26 (nI s) (nI i) 2 (nI (24 * (40 * s + i))) (d + 1)) (i := i) (m := m) (all := sm_im r (sm_al c D nm (sm_ev c D nm va n K V) K (ex_B n K V) (V i).toNatClampNeg i m)) hs (by omega) hrm (old := se) (by omega) (fun se' q1 q2 => ih (m + 1) se' _ _ _ _ _ _ (by omega) (fun x hx => ?_) (fun k hk => by rw [q2 k hk]; exact h2 k hk)) 24 0 se (by omega) (fun p hp => by omega) (fun k _ => rfl)
    · rw [nI_0] at h
      exact ⟨_, h⟩
    · have hrx := hr x hx
      have e1 : se (24 * (40 * s + i) + 24 + r x) = sm_im r (sm_ev c D nm va n K V (i + 1) x 1 1) := by
        have := hst se h2 (i + 1) (Nat.le_refl _) hi1 t1 x hx
        rw [show 24 * (40 * s + (i + 1)) + r x = 24 * (40 * s + i) + 24 + r x by omega] at this
        exact this
      rw [q1 (r x) hrx, e1, im_bt hc hr W.2.2.1 (okx x hx) (by omega), h1 x hx, List.range_succ, List.filter_append]
      by_cases y : bt (sm_ev c D nm va n K V (i + 1) x 1 1) m = true
      · rw [if_pos y, im_or hc hr W.2.2.1 (sm_or_ok _ (fun k _ => sm_al_ok hc)) alok, sm_or_app, List.filter_cons, if_pos y]
        show _ = sm_im r (_ ||| (_ ||| 0))
        rw [Int32.or_zero]
      · rw [if_neg y, List.filter_cons, if_neg y]
        show _ = sm_im r (sm_or _ (_ ++ []))
        rw [List.append_nil]
theorem ty_prepare (W : tr_TW c r D nm) (hc0 : 0 < c) (T : yy_t g_count b_row b_depth b_name b_value c r D nm va) {ln : Nat → Nat} {KK : Nat → Nat → Nat} {VV : Nat → Nat → Int32} (hln40 : ∀ t, ln t ≤ 40) {s : Nat} (hs : s < 8) (E : ex_E (ln s) (KK s) (VV s)) (S : yy_sl (40 * s) (ln s) (KK s) (VV s) b_kind b_with) (hln : b_length s = nI (ln s))
    (hF : yy_fr c r D nm va ln KK VV b_fresh b_sets) {post : SY → Prop} (hp : ∀ (g_top' g_listed' : Int32) (b_sets' b_fresh' b_type' b_number' b_set' b_list' : Nat → Int32), b_fresh' s ≠ 0 → yy_fr c r D nm va ln KK VV b_fresh' b_sets' → post (g_count, g_top', g_listed', g_outputs, b_row, b_depth, b_name, b_value, b_moved, b_kind, b_with, b_length, b_sets', b_fresh', b_type', b_number', b_set', b_list', b_there, b_match, b_priority, b_out, b_on, b_todo, b_within, b_output)) : wpY_prepare post (g_count, g_top, g_listed, g_outputs, b_row, b_depth, b_name, b_value, b_moved, b_kind, b_with, b_length, b_sets, b_fresh, b_type, b_number, b_set, b_list, b_there, b_match, b_priority, b_out, b_on, b_todo, b_within, b_output) (nI s) := by
  have hc := W.1
  have hr := W.2.1
  have hj := W.2.2.1
  have hn := E.2.1
  have cs : (nI s).toNatClampNeg = s := nI_clamp (by omega)
  refine ⟨pk_in s 8 hs, ?_⟩
  by_cases hk : b_fresh s = 0
  · refine br_t (by rw [cs]; exact hk) ⟨pk_in s 8 hs, nm_r (up_cl (by omega) bs_bool1) ⟨pk_in s 9 (by omega), ?_⟩⟩
    have loop : ∀ t se g_top' g_listed' b_type' b_number' b_set' b_list', t ≤ ln s → yy_st c r D nm va (40 * s) (ln s) (KK s) (VV s) t se → (∀ k, k < 960 * s ∨ 960 * s + 960 ≤ k → se k = b_sets k) →
        wY_prepare_26 post (nI s) (t + 1) (nI t + (-1)) g_count g_top' g_listed' g_outputs b_row b_depth b_name b_value b_moved b_kind b_with b_length se (upd b_fresh s 1) b_type' b_number' b_set' b_list' b_there b_match b_priority b_out b_on b_todo b_within b_output := by
      intro t
      induction t with
      | zero =>
        intro se g_top' g_listed' b_type' b_number' b_set' b_list' _ h1 h2
        refine br_t (show (nI 0 + (-1) : Int32) < 0 by decide) (hp _ _ se (upd b_fresh s 1) _ _ _ _ (by rw [pk_us]; decide) (fun q hq hfq hlq => ?_))
        by_cases e : q = s
        · subst e; exact h1
        · rw [pk_un e] at hfq
          have h := hF q hq hfq hlq
          intro j a b dd x hx
          have := hr x hx
          have := hln40 q
          rw [h2 _ (by omega)]
          exact h j a b dd x hx
      | succ i ih =>
        intro se g_top' g_listed' b_type' b_number' b_set' b_list' hi h1 h2
        rw [pk_m1]
        have hi' : i < ln s := by omega
        have e1 : (40 : Int32) * nI s + nI i = nI (40 * s + i) := by rw [x40, nI_add]
        have ek : b_kind ((40 : Int32) * nI s + nI i).toNatClampNeg = nI (KK s i) := by rw [cl_n e1 (by omega)]; exact (S i hi').1
        have tok := E.2.2.2.1 i hi'
        have k17 := tok.1
        obtain ⟨o1, o2, o3⟩ := E.2.2.2.2 i hi'
        have hcs := ex_ar_cases tok
        refine pk_lt i 0 (fun z => by omega) (fun _ => ⟨pk_in (40 * s + i) 360 (by omega) e1, nm_r ek (pk_le (KK s i) 3 (fun z3 => ?_) (fun z3 => nm_e (ih se _ _ _ _ _ _ (by omega) (fun j a b dd x hx => ?_) h2)))⟩)
        rotate_left
        · by_cases e : j = i
          · subst e; rw [ex_ty_0] at dd; omega
          · exact h1 j (by omega) b dd x hx
        have e24 : (24 : Int32) * ((40 : Int32) * nI s + nI i) = nI (24 * (40 * s + i)) := by rw [e1]; exact pk_mul 24 _
        refine nm_r e24 ?_
        have nxt : ∀ (se' : Nat → Int32) (g_top1 g_listed1 : Int32) (b_type1 b_number1 b_set1 b_list1 : Nat → Int32), (∀ x, x < c → se' (24 * (40 * s + i) + r x) = sm_im r (sm_ev c D nm va (ln s) (KK s) (VV s) i x 1 1)) → (∀ k, k < 24 * (40 * s + i) ∨ 24 * (40 * s + i) + 24 ≤ k → se' k = se k) →
            wY_prepare_26 post (nI s) (i + 1) (nI i + (-1)) g_count g_top1 g_listed1 g_outputs b_row b_depth b_name b_value b_moved b_kind b_with b_length se' (upd b_fresh s 1) b_type1 b_number1 b_set1 b_list1 b_there b_match b_priority b_out b_on b_todo b_within b_output := by
          intro se' g_top1 g_listed1 b_type1 b_number1 b_set1 b_list1 q1 q2
          refine ih se' _ _ _ _ _ _ (by omega) (fun j a b dd x hx => ?_) (fun k hk => by rw [q2 k (by omega)]; exact h2 k hk)
          by_cases e : j = i
          · subst e; exact q1 x hx
          · have := hr x hx
            rw [q2 _ (by omega)]; exact h1 j (by omega) b dd x hx
        -- prepare_190 when the token is no STEP
        have k190 : KK s i ≠ 2 → ∀ (se' : Nat → Int32), (∀ x, x < c → se' (24 * (40 * s + i) + r x) = sm_im r (sm_ev c D nm va (ln s) (KK s) (VV s) i x 1 1)) → (∀ k, k < 24 * (40 * s + i) ∨ 24 * (40 * s + i) + 24 ≤ k → se' k = se k) →
            ∃ n190, wY_prepare_190 post (wY_prepare_26 post (nI s) (i + 1)) (nI s) (nI i) (nI (KK s i)) (nI (24 * (40 * s + i))) n190 0 g_count g_top' g_listed' g_outputs b_row b_depth b_name b_value b_moved b_kind b_with b_length se' (upd b_fresh s 1) b_type' b_number' b_set' b_list' b_there b_match b_priority b_out b_on b_todo b_within b_output := by
          intro n2 se' q1 q2
          exact ⟨1, pk_le c 0 (fun z => by omega) (fun _ => pk_eq (KK s i) 2 (fun z => absurd z n2) (fun _ => nm_e (nxt se' _ _ _ _ _ _ q1 q2))) T.1⟩
        have evF := fun x => sm_ev_eq (c := c) (D := D) (nm := nm) (va := va) (n := ln s) (K := KK s) (V := VV s) hi' x 1 1
        -- the first loop
        have L64 : ∀ d q se', q + d = 24 → (∀ p, p < q → se' (24 * (40 * s + i) + p) = if KK s i = 0 then bs_oh p else if KK s i = 1 then bs_oh (r 0) else 0) → (∀ k, k < 24 * (40 * s + i) ∨ 24 * (40 * s + i) + q ≤ k → se' k = se k) →
            wY_prepare_64 post (wY_prepare_26 post (nI s) (i + 1)) (nI s) (nI i) (nI (KK s i)) (nI (24 * (40 * s + i))) g_count g_top' g_listed' g_outputs (d + 1) (nI q) b_row b_depth b_name b_value b_moved b_kind b_with b_length se' (upd b_fresh s 1) b_type' b_number' b_set' b_list' b_there b_match b_priority b_out b_on b_todo b_within b_output := by
          intro d
          induction d with
          | zero =>
            intro q se' hq q1 q2
            have e : q = 24 := by omega
            subst e
            have q2' : ∀ k, k < 24 * (40 * s + i) ∨ 24 * (40 * s + i) + 24 ≤ k → se' k = se k := q2
            refine pk_le 24 24 (fun _ => pk_eq (KK s i) 3 (fun k3 => ?_) (fun n3 => ?_)) (fun z => by omega)
            · have hi1 : i + 1 < ln s := o2 0 (by omega)
              have hi2 : ex_B (ln s) (KK s) (VV s) (i + 1) < ln s := o2 1 (by omega)
              have hBl := ex_B_lt (n := ln s) (K := KK s) (V := VV s) (i + 1)
              have e2 : (40 : Int32) * nI s + nI i + 1 = nI (40 * s + (i + 1)) := by rw [e1, nI_1]; rfl
              refine ek_v (P := fun w => wpY_endOf _ _ w) e2 (ty_endOf (o := 40 * s) (by omega) E S hi1 ?_)
              have L137 : ∀ d q se1, q + d = 24 → (∀ p, p < q → se1 (24 * (40 * s + i) + p) = se (24 * (40 * s + i) + 24 + p) ||| se (24 * (40 * s + ex_B (ln s) (KK s) (VV s) (i + 1)) + p)) → (∀ k, k < 24 * (40 * s + i) ∨ 24 * (40 * s + i) + 24 ≤ k → se1 k = se k) →
                  wY_prepare_137 post (wY_prepare_26 post (nI s) (i + 1)) (nI s) (nI i) (nI (KK s i)) (nI (24 * (40 * s + i))) (nI (40 * s + ex_B (ln s) (KK s) (VV s) (i + 1))) g_count g_top' g_listed' g_outputs (d + 1) (nI q) b_row b_depth b_name b_value b_moved b_kind b_with b_length se1 (upd b_fresh s 1) b_type' b_number' b_set' b_list' b_there b_match b_priority b_out b_on b_todo b_within b_output := by
                intro d
                induction d with
                | zero =>
                  intro q se1 hq p1 p2
                  have e : q = 24 := by omega
                  subst e
                  refine pk_le 24 24 (fun _ => k190 (by omega) se1 (fun x hx => ?_) p2) (fun z => by omega)
                  have hrx := hr x hx
                  have a1 := h1 (i + 1) (Nat.le_refl _) hi1 (o3.2.1 k3).1 x hx
                  have a2 := h1 _ (by omega) hi2 (o3.2.1 k3).2 x hx
                  rw [show 24 * (40 * s + (i + 1)) + r x = 24 * (40 * s + i) + 24 + r x by omega] at a1
                  rw [p1 (r x) hrx, a1, a2, im_or hc hr hj (sm_ev_ok hc hc0 _ _ (Nat.le_refl _) hi1 E (o3.2.1 k3).1 x hx 1 1) (sm_ev_ok hc hc0 _ _ (Nat.le_refl _) hi2 E (o3.2.1 k3).2 x hx 1 1), evF x]
                  have a2' : ex_ar (KK s i) (VV s i) = 2 := by omega
                  unfold sm_F
                  rw [if_neg (by omega), if_neg (by omega), if_neg (by omega), if_neg (by omega), if_neg (by omega), if_neg (by omega), if_pos a2', if_pos a2']
                  unfold sm_jn
                  rw [if_pos k3]
                | succ d ih2 =>
                  intro q se1 hq p1 p2
                  have f1 : nI (24 * (40 * s + i)) + 24 + nI q = nI (24 * (40 * s + i) + 24 + q) := by
                    have : (24 : Int32) = nI 24 := rfl
                    rw [this, nI_add, nI_add]
                  have f2 : (24 : Int32) * nI (40 * s + ex_B (ln s) (KK s) (VV s) (i + 1)) + nI q = nI (24 * (40 * s + ex_B (ln s) (KK s) (VV s) (i + 1)) + q) := x24 _ _
                  have f3 : nI (24 * (40 * s + i)) + nI q = nI (24 * (40 * s + i) + q) := nI_add _ _
                  have ev : se1 (nI (24 * (40 * s + i)) + 24 + nI q).toNatClampNeg ||| se1 ((24 : Int32) * nI (40 * s + ex_B (ln s) (KK s) (VV s) (i + 1)) + nI q).toNatClampNeg = se (24 * (40 * s + i) + 24 + q) ||| se (24 * (40 * s + ex_B (ln s) (KK s) (VV s) (i + 1)) + q) := by
                    rw [cl_n f1 (by omega), cl_n f2 (by omega), p2 _ (by omega), p2 _ (by omega)]
                  refine pk_le 24 q (fun z => by omega) (fun _ => ⟨pk_in _ 7680 (by omega) f1, pk_in _ 7680 (by omega) f2, pk_in _ 7680 (by omega) f3, nm_r (up_n f3 (by omega) ev) (nm_r (nI_1 q) (ih2 (q + 1) _ (by omega) (fun p hp => ?_) (fun k hk => ?_)))⟩)
                  · by_cases e : p = q
                    · rw [e, pk_us]
                    · rw [pk_un (by omega)]; exact p1 p (by omega)
                  · rw [pk_un (by omega)]; exact p2 k hk
              have h := L137 24 0 se' (by omega) (fun p hp => by omega) q2'
              rw [nI_0] at h
              exact ⟨_, h⟩
            · by_cases k2 : KK s i = 2
              · rw [k2]
                have hi1 : i + 1 < ln s := o2 0 (by omega)
                have hst : yy_st c r D nm va (40 * s) (ln s) (KK s) (VV s) (i + 1) se' := by
                  intro j a b dd x hx
                  have := hr x hx
                  rw [q2' _ (by omega)]
                  exact h1 j a b dd x hx
                have h := ty_prep190 (post := post) (J26 := wY_prepare_26 post (nI s) (i + 1)) W T hs E S hi' k2 hst (b_fresh := upd b_fresh s 1) (fun se2 g_top1 g_listed1 b_type1 b_number1 b_set1 b_list1 y1 y2 => nxt se2 _ _ _ _ _ _ (fun x hx => y1 i (Nat.le_refl _) hi' (ex_ty_0.mpr (by omega)) x hx) (fun k hk => by rw [y2 k hk]; exact q2' k hk)) c 0 se' g_top' g_listed' b_type' b_number' b_set' b_list' (by omega) (fun x hx => ?_) (fun k _ => rfl)
                · rw [nI_0] at h
                  exact ⟨_, h⟩
                · rw [q1 (r x) (hr x hx), if_neg (by omega), if_neg (by omega)]
                  show (0 : Int32) = sm_im r 0
                  exact ((im_0 hc hr hj (bs_0_ok c)).mpr rfl).symm
              · refine k190 k2 se' (fun x hx => ?_) q2'
                rw [q1 (r x) (hr x hx), evF x]
                unfold sm_F
                by_cases k0 : KK s i = 0
                · rw [if_pos k0, if_pos k0]; exact im_oh hc hr hj hx
                · have k1 : KK s i = 1 := by omega
                  rw [if_neg k0, if_pos k1, if_neg k0, if_pos k1, im_oh hc hr hj hc0]
                  rfl
          | succ d ih2 =>
            intro q se' hq q1 q2
            have f3 : nI (24 * (40 * s + i)) + nI q = nI (24 * (40 * s + i) + q) := nI_add _ _
            have v3 : vp_in (nI (24 * (40 * s + i)) + nI q) 7680 := pk_in _ 7680 (by omega) f3
            have go : ∀ w : Int32, w = (if KK s i = 0 then bs_oh q else if KK s i = 1 then bs_oh (r 0) else 0) → wY_prepare_64 post (wY_prepare_26 post (nI s) (i + 1)) (nI s) (nI i) (nI (KK s i)) (nI (24 * (40 * s + i))) g_count g_top' g_listed' g_outputs (d + 1) (nI (q + 1)) b_row b_depth b_name b_value b_moved b_kind b_with b_length (upd se' (24 * (40 * s + i) + q) w) (upd b_fresh s 1) b_type' b_number' b_set' b_list' b_there b_match b_priority b_out b_on b_todo b_within b_output := by
              intro w hw
              refine ih2 (q + 1) _ (by omega) (fun p hp => ?_) (fun k hk => ?_)
              · by_cases e : p = q
                · rw [e, pk_us]; exact hw
                · rw [pk_un (by omega)]; exact q1 p (by omega)
              · rw [pk_un (by omega)]; exact q2 k (by omega)
            refine pk_le 24 q (fun z => by omega) (fun _ => pk_eq (KK s i) 0 (fun k0 => ⟨v3, nm_r (up_n f3 (by omega) rfl) (nm_r (nI_1 q) (go _ ?_))⟩) (fun n0 => pk_eq (KK s i) 1 (fun k1 => ⟨v3, nm_r (up_n f3 (by omega) (y := bs_oh (r 0)) ?_) (nm_r (nI_1 q) (go _ ?_))⟩) (fun n1 => ⟨v3, nm_r (up_n f3 (by omega) rfl) (nm_r (nI_1 q) (go _ ?_))⟩)))
            · rw [if_pos k0]; rfl
            · rw [(T.2 0 hc0).1]; rfl
            · rw [if_neg n0, if_pos k1]
            · rw [if_neg n0, if_neg n1]
        have h := L64 24 0 se (by omega) (fun p hp => by omega) (fun k _ => rfl)
        rw [nI_0] at h
        exact ⟨_, h⟩
    have el : b_length (nI s).toNatClampNeg - 1 = nI (ln s) + (-1) := by rw [cs, hln, Int32.sub_eq_add_neg]
    exact nm_r el ⟨_, loop (ln s) b_sets _ _ _ _ _ _ (Nat.le_refl _) (fun j a b => by omega) (fun k _ => rfl)⟩
  · exact br_f (by rw [cs]; exact hk) (hp _ _ _ _ _ _ _ _ hk hF)
/-- ask: what a slot gives at a place comes to the bottom of the stack -/
theorem ty_ask (W : tr_TW c r D nm) (T : yy_t g_count b_row b_depth b_name b_value c r D nm va) {ln : Nat → Nat} {KK : Nat → Nat → Nat} {VV : Nat → Nat → Int32} (hln40 : ∀ t, ln t ≤ 40) {s x : Nat} (hs : s < 8) (hx : x < c) (E : ex_E (ln s) (KK s) (VV s)) (S : yy_sl (40 * s) (ln s) (KK s) (VV s) b_kind b_with) (hln : b_length s = nI (ln s))
    (hF : yy_fr c r D nm va ln KK VV b_fresh b_sets) {post : SY → Prop} (hp : ∀ (g_top' g_listed' : Int32) (b_sets' b_fresh' b_type' b_number' b_set' b_list' : Nat → Int32), yy_fr c r D nm va ln KK VV b_fresh' b_sets' → yy_sk r b_type' b_number' b_set' 0 (ex_ty (KK s 0)) (sm_ev c D nm va (ln s) (KK s) (VV s) 0 x 1 1) → post (g_count, g_top', g_listed', g_outputs, b_row, b_depth, b_name, b_value, b_moved, b_kind, b_with, b_length, b_sets', b_fresh', b_type', b_number', b_set', b_list', b_there, b_match, b_priority, b_out, b_on, b_todo, b_within, b_output)) : wpY_ask post (g_count, g_top, g_listed, g_outputs, b_row, b_depth, b_name, b_value, b_moved, b_kind, b_with, b_length, b_sets, b_fresh, b_type, b_number, b_set, b_list, b_there, b_match, b_priority, b_out, b_on, b_todo, b_within, b_output) (nI s) (nI (r x)) := by
  unfold wpY_ask
  refine ty_prepare W (by omega) T hln40 hs E S hln hF (fun g_top' g_listed' b_sets' b_fresh' b_type' b_number' b_set' b_list' hf hF' => ?_)
  exact ty_workOut (f := 0) W T hs E S E.1 hx (hF' s hs hf E.1) (fun tp ty nu se sk => hp _ _ _ _ _ _ _ _ hF' sk)
end
end
section
/-! ===== templates: which match, which is taken; X.sort ===== -/
def sm_R (c : Nat) (D nm : Nat → Nat) (va : Nat → Int32) (ln : Nat → Nat) (KK : Nat → Nat → Nat) (VV : Nat → Nat → Int32) (t x : Nat) : Int32 := sm_ev c D nm va (ln t) (KK t) (VV t) 0 x 1 1
def xx_SL (ln : Nat → Nat) (KK : Nat → Nat → Nat) (VV : Nat → Nat → Int32) (length kinds vals types behind loc : Nat → Int32) : Prop :=
  ∀ s, s < 8 → length s = nI (ln s) ∧ (0 < ln s → ex_E (ln s) (KK s) (VV s) ∧ xx_sl (40 * s) (ln s) (KK s) (VV s) kinds vals types behind loc)
def yy_SL (ln : Nat → Nat) (KK : Nat → Nat → Nat) (VV : Nat → Nat → Int32) (length kind wit : Nat → Int32) : Prop :=
  ∀ s, s < 8 → length s = nI (ln s) ∧ (0 < ln s → ex_E (ln s) (KK s) (VV s) ∧ yy_sl (40 * s) (ln s) (KK s) (VV s) kind wit)
def tm_set (ln : Nat → Nat) (KK : Nat → Nat → Nat) (s : Nat) : Bool := decide (0 < ln s ∧ KK s 0 < 4)
def tm_hit (c : Nat) (D : Nat → Nat) (R : Nat → Int32) (k : Nat) : Nat → Bool := fun x => decide (x ≤ k ∧ k < tr_be c D x) && bt (R x) k
def tm_fit (c : Nat) (D : Nat → Nat) (R : Nat → Int32) (m k : Nat) : Bool := (List.range m).any (tm_hit c D R k)
def tm_M (c : Nat) (D : Nat → Nat) (ln : Nat → Nat) (KK : Nat → Nat → Nat) (R : Nat → Nat → Int32) : Option Nat → Int32
  | none => 0
  | some m => if tm_set ln KK m = true then bs_fs c (tm_fit c D (R m) c) else 0
def tm_best (fits : Nat → Bool) (pr : Nat → Int32) : Nat → Option Nat
  | 0 => none
  | t + 1 => if fits t = true then (match tm_best fits pr t with | none => some t | some b => if pr t < pr b then some b else some t) else tm_best fits pr t
theorem tm_best_lt {fits : Nat → Bool} {pr : Nat → Int32} {b : Nat} : ∀ n, tm_best fits pr n = some b → b < n
  | 0, h => absurd h (by simp [tm_best])
  | t + 1, h => by
    simp only [tm_best] at h
    by_cases z : fits t = true
    · rw [if_pos z] at h
      cases e : tm_best fits pr t with
      | none => rw [e] at h; have := Option.some.inj h; omega
      | some q =>
        rw [e] at h
        have hq := tm_best_lt t e
        by_cases y : pr t < pr q
        · simp only [if_pos y] at h; have := Option.some.inj h; omega
        · simp only [if_neg y] at h; have := Option.some.inj h; omega
    · rw [if_neg z] at h
      have := tm_best_lt t h
      omega
theorem tm_M_s {c : Nat} {D ln : Nat → Nat} {KK : Nat → Nat → Nat} {R : Nat → Nat → Int32} {m : Nat} : tm_M c D ln KK R (some m) = if tm_set ln KK m = true then bs_fs c (tm_fit c D (R m) c) else 0 := rfl
theorem tm_M_ok {c : Nat} {D ln : Nat → Nat} {KK : Nat → Nat → Nat} {R : Nat → Nat → Int32} (hc : c ≤ 24) : ∀ o, bs_ok c (tm_M c D ln KK R o)
  | none => bs_0_ok c
  | some m => by
    rw [tm_M_s]
    by_cases z : tm_set ln KK m = true
    · rw [if_pos z]; exact bs_fs_ok (by omega) _
    · rw [if_neg z]; exact bs_0_ok c
def tm_mo (o : Option Nat) : Int32 := tr_nd id o
/-- what sort leaves -/
def xx_so (c : Nat) (D : Nat → Nat) (ln : Nat → Nat) (KK : Nat → Nat → Nat) (R : Nat → Nat → Int32) (mo : Nat → Option Nat) (pr matched chosen : Nat → Int32) : Prop :=
  (∀ t, t < 6 → matched t = tm_M c D ln KK R (mo t)) ∧ ∀ x, x < c → chosen x = tr_nd id (tm_best (fun t => bt (tm_M c D ln KK R (mo t)) x) pr 6)
section
variable {c : Nat} {r D nm : Nat → Nat} {va : Nat → Int32} {ln : Nat → Nat} {KK : Nat → Nat → Nat} {VV : Nat → Nat → Int32} {mo : Nat → Option Nat} {f_root f_used f_counted f_sorted f_put : Int32} {a_names a_values a_parent a_first a_next a_place a_nodeAt a_end a_up a_children a_above a_named a_valueAt a_kinds a_vals a_types a_behind a_local a_length a_open a_table a_results a_known a_along a_stack a_match a_priority a_out a_on a_matched a_chosen a_waiting a_depths a_outputs : Nat → Int32}
/-- the loop that takes template t for its places -/
theorem tx_sort149 (hc : c ≤ 24) {t : Nat} (ht : t < 6) {b0 : Nat → Option Nat} (hb0 : ∀ x b, b0 x = some b → b < 6) {post : SX → Prop} {J42 : Int32 → Int32 → Int32 → Int32 → Int32 → Int32 → (Nat → Int32) → (Nat → Int32) → (Nat → Int32) → (Nat → Int32) → (Nat → Int32) → (Nat → Int32) → (Nat → Int32) → (Nat → Int32) → (Nat → Int32) → (Nat → Int32) → (Nat → Int32) → (Nat → Int32) → (Nat → Int32) → (Nat → Int32) → (Nat → Int32) → (Nat → Int32) → (Nat → Int32) → (Nat → Int32) → (Nat → Int32) → (Nat → Int32) → (Nat → Int32) → (Nat → Int32) → (Nat → Int32) → (Nat → Int32) → (Nat → Int32) → (Nat → Int32) → (Nat → Int32) → (Nat → Int32) → (Nat → Int32) → (Nat → Int32) → (Nat → Int32) → (Nat → Int32) → (Nat → Int32) → (Nat → Int32) → Prop}
    {M : List Nat} (hJ : ∀ ch, (∀ x, x < c → ch x = tr_nd id (if x ∈ M then (match b0 x with | none => some t | some b => if a_priority t < a_priority b then some b else some t) else b0 x)) → J42 (nI (t + 1)) f_root f_used f_counted f_sorted f_put a_names a_values a_parent a_first a_next a_place a_nodeAt a_end a_up a_children a_above a_named a_valueAt a_kinds a_vals a_types a_behind a_local a_length a_open a_table a_results a_known a_along a_stack a_match a_priority a_out a_on a_matched ch a_waiting a_depths a_outputs) :
    ∀ (L : List Nat) (P : List Nat) (ch : Nat → Int32), L.Pairwise (· < ·) → (∀ k, k ∈ L → k < c) → (∀ k, k ∈ M ↔ k ∈ P ∨ k ∈ L) → (∀ k, k ∈ P → k ∉ L) → (∀ x, x < c → ch x = tr_nd id (if x ∈ P then (match b0 x with | none => some t | some b => if a_priority t < a_priority b then some b else some t) else b0 x)) →
      wX_sort_149 post J42 (nI t) f_root f_used f_counted f_sorted f_put (L.length + 1) (bs_bo L) a_names a_values a_parent a_first a_next a_place a_nodeAt a_end a_up a_children a_above a_named a_valueAt a_kinds a_vals a_types a_behind a_local a_length a_open a_table a_results a_known a_along a_stack a_match a_priority a_out a_on a_matched ch a_waiting a_depths a_outputs := by
  intro L
  induction L with
  | nil =>
    intro P ch _ _ hM _ hch
    refine br_t rfl (nm_r (nI_1 t) (hJ ch (fun x hx => ?_)))
    rw [hch x hx]
    have : x ∈ P ↔ x ∈ M := by rw [hM x]; simp
    by_cases z : x ∈ P
    · rw [if_pos z, if_pos (this.mp z)]
    · rw [if_neg z, if_neg (fun w => z (this.mpr w))]
  | cons k L ih =>
    intro P ch ha hb hM hPL hch
    obtain ⟨a1, a2, a3, a4⟩ := bs_asc ha (fun j hj => by have := hb j hj; omega)
    have hk := hb k (List.mem_cons_self ..)
    have ha' := List.pairwise_cons.mp ha
    have hkP : k ∉ P := fun z => hPL k z (List.mem_cons_self ..)
    have hkL : k ∉ L := fun z => by have := ha'.1 k z; omega
    have ck : (nI k).toNatClampNeg = k := nI_clamp (by omega)
    have hM' : ∀ q, q ∈ M ↔ q ∈ P ++ [k] ∨ q ∈ L := by
      intro q
      rw [hM q, List.mem_cons, List.mem_append, List.mem_singleton]
      exact ⟨fun z => z.elim (fun w => Or.inl (Or.inl w)) (fun w => w.elim (fun v => Or.inl (Or.inr v)) Or.inr), fun z => z.elim (fun w => w.elim Or.inl (fun v => Or.inr (Or.inl v))) (fun w => Or.inr (Or.inr w))⟩
    have hPL' : ∀ q, q ∈ P ++ [k] → q ∉ L := by
      intro q hq
      rcases List.mem_append.mp hq with z | z
      · exact fun w => hPL q z (List.mem_cons_of_mem _ w)
      · rw [List.mem_singleton.mp z]; exact hkL
    have chk : ch (nI k).toNatClampNeg = tr_nd id (b0 k) := by rw [ck, hch k hk, if_neg hkP]
    have go : ∀ v : Int32, v = tr_nd id (match b0 k with | none => some t | some b => if a_priority t < a_priority b then some b else some t) → wX_sort_149 post J42 (nI t) f_root f_used f_counted f_sorted f_put (L.length + 1) (bs_bo L) a_names a_values a_parent a_first a_next a_place a_nodeAt a_end a_up a_children a_above a_named a_valueAt a_kinds a_vals a_types a_behind a_local a_length a_open a_table a_results a_known a_along a_stack a_match a_priority a_out a_on a_matched (upd ch k v) a_waiting a_depths a_outputs := by
      intro v hv
      refine ih (P ++ [k]) _ ha'.2 (fun j hj => hb j (List.mem_cons_of_mem _ hj)) hM' hPL' (fun x hx => ?_)
      by_cases e : x = k
      · subst e
        rw [pk_us, if_pos (by simp)]; exact hv
      · rw [pk_un e, hch x hx]
        by_cases z : x ∈ P
        · rw [if_pos z, if_pos (List.mem_append.mpr (Or.inl z))]
        · rw [if_neg z, if_neg (fun w => (List.mem_append.mp w).elim z (fun v => e (List.mem_singleton.mp v)))]
    have put : tr_nd id (match b0 k with | none => some t | some b => if a_priority t < a_priority b then some b else some t) = nI t → wX_sort_190 post J42 (wX_sort_149 post J42 (nI t) f_root f_used f_counted f_sorted f_put (L.length + 1)) (nI t) (bs_bo (k :: L)) (nI k) f_root f_used f_counted f_sorted f_put a_names a_values a_parent a_first a_next a_place a_nodeAt a_end a_up a_children a_above a_named a_valueAt a_kinds a_vals a_types a_behind a_local a_length a_open a_table a_results a_known a_along a_stack a_match a_priority a_out a_on a_matched ch a_waiting a_depths a_outputs := by
      intro e
      exact ⟨pk_in k 24 (by omega), nm_r (up_cl (by omega) (bs_nb (by omega))) (nm_r a2 (go (nI t) e.symm))⟩
    refine br_f a1 (a4 _ ⟨pk_in k 24 (by omega), ?_⟩)
    cases e : b0 k with
    | none =>
      rw [e] at chk
      exact br_t (by rw [chk]; decide) (put (by rw [e]; rfl))
    | some b =>
      have hb6 := hb0 k b e
      rw [e] at chk
      have chk : ch (nI k).toNatClampNeg = nI b := chk
      refine br_f (by rw [chk]; exact nI_pos (by omega)) ⟨pk_in t 6 ht, pk_in k 24 (by omega), pk_in b 6 hb6 chk, ?_⟩
      have p1 : a_priority (nI t).toNatClampNeg = a_priority t := by rw [nI_clamp (by omega)]
      have p2 : a_priority (ch (nI k).toNatClampNeg).toNatClampNeg = a_priority b := by rw [chk, nI_clamp (by omega)]
      by_cases z : a_priority t < a_priority b
      · refine br_t (by rw [p1, p2]; exact z) (nm_r a2 ?_)
        have g := go (nI b) (by rw [e]; simp only [if_pos z]; rfl)
        have eu : upd ch k (nI b) = ch := by
          funext q
          by_cases w : q = k
          · rw [w, pk_us, ← chk, ck]
          · rw [pk_un w]
        rw [eu] at g
        exact g
      · exact br_f (by rw [p1, p2]; exact z) (put (by rw [e]; simp only [if_neg z]; rfl))
theorem tm_any_s {P : Nat → Bool} {m : Nat} : (List.range (m + 1)).any P = ((List.range m).any P || P m) := by
  rw [List.range_succ, List.any_append]; simp
theorem tx_sort (W : tr_TW c r D nm) (hc0 : 0 < c) (T : xx_t f_used f_root a_names a_values a_parent a_first a_next c r D nm va)
    (hC : f_counted ≠ 0 → xx_ct c r D nm va a_place a_nodeAt a_end a_up a_children a_above a_named a_valueAt)
    (SL : xx_SL ln KK VV a_length a_kinds a_vals a_types a_behind a_local)
    (hR : ∀ t, t < 8 → a_known t ≠ 0 → ∀ x, x < c → a_results (24 * t + x) = sm_R c D nm va ln KK VV t x)
    (hM : ∀ t, t < 6 → a_match t = tm_mo (mo t) ∧ ∀ m, mo t = some m → m < 8)
    (hS : f_sorted ≠ 0 → xx_so c D ln KK (sm_R c D nm va ln KK VV) mo a_priority a_matched a_chosen) {post : SX → Prop}
    (hp : ∀ (f_counted' f_sorted' : Int32) (a_place' a_nodeAt' a_end' a_up' a_children' a_above' a_named' a_valueAt' a_table' a_results' a_known' a_along' a_stack' a_matched' a_chosen' : Nat → Int32), f_counted' ≠ 0 → xx_ct c r D nm va a_place' a_nodeAt' a_end' a_up' a_children' a_above' a_named' a_valueAt' → (∀ t, t < 8 → a_known' t ≠ 0 → ∀ x, x < c → a_results' (24 * t + x) = sm_R c D nm va ln KK VV t x) → f_sorted' ≠ 0 → xx_so c D ln KK (sm_R c D nm va ln KK VV) mo a_priority a_matched' a_chosen' → post (f_root, f_used, f_counted', f_sorted', f_put, a_names, a_values, a_parent, a_first, a_next, a_place', a_nodeAt', a_end', a_up', a_children', a_above', a_named', a_valueAt', a_kinds, a_vals, a_types, a_behind, a_local, a_length, a_open, a_table', a_results', a_known', a_along', a_stack', a_match, a_priority, a_out, a_on, a_matched', a_chosen', a_waiting, a_depths, a_outputs)) :
    wpX_sort post (f_root, f_used, f_counted, f_sorted, f_put, a_names, a_values, a_parent, a_first, a_next, a_place, a_nodeAt, a_end, a_up, a_children, a_above, a_named, a_valueAt, a_kinds, a_vals, a_types, a_behind, a_local, a_length, a_open, a_table, a_results, a_known, a_along, a_stack, a_match, a_priority, a_out, a_on, a_matched, a_chosen, a_waiting, a_depths, a_outputs) := by
  have hc := W.1
  have hu := T.1
  unfold wpX_sort
  refine tx_count W T hC (fun f_counted' a_place' a_nodeAt' a_end' a_up' a_children' a_above' a_named' a_valueAt' hcn CT => ?_)
  by_cases hs : f_sorted = 0
  · refine br_t hs ?_
    -- templates
    have L42 : ∀ d t f_counted1 a_place1 a_nodeAt1 a_end1 a_up1 a_children1 a_above1 a_named1 a_valueAt1 a_table1 a_results1 a_known1 a_along1 a_stack1 ma ch, t + d = 6 → f_counted1 ≠ 0 → xx_ct c r D nm va a_place1 a_nodeAt1 a_end1 a_up1 a_children1 a_above1 a_named1 a_valueAt1 → (∀ t, t < 8 → a_known1 t ≠ 0 → ∀ x, x < c → a_results1 (24 * t + x) = sm_R c D nm va ln KK VV t x) →
        (∀ q, q < t → ma q = tm_M c D ln KK (sm_R c D nm va ln KK VV) (mo q)) → (∀ x, x < c → ch x = tr_nd id (tm_best (fun t => bt (tm_M c D ln KK (sm_R c D nm va ln KK VV) (mo t)) x) a_priority t)) →
        wX_sort_42 post (d + 1) (nI t) f_root f_used f_counted1 1 f_put a_names a_values a_parent a_first a_next a_place1 a_nodeAt1 a_end1 a_up1 a_children1 a_above1 a_named1 a_valueAt1 a_kinds a_vals a_types a_behind a_local a_length a_open a_table1 a_results1 a_known1 a_along1 a_stack1 a_match a_priority a_out a_on ma ch a_waiting a_depths a_outputs := by
      intro d
      induction d with
      | zero =>
        intro t f_counted1 a_place1 a_nodeAt1 a_end1 a_up1 a_children1 a_above1 a_named1 a_valueAt1 a_table1 a_results1 a_known1 a_along1 a_stack1 ma ch ht c1 c2 c3 h1 h2
        have e : t = 6 := by omega
        subst e
        exact pk_le 6 6 (fun _ => hp _ 1 _ _ _ _ _ _ _ _ _ _ _ _ _ ma ch c1 c2 c3 (by decide) ⟨h1, h2⟩) (fun z => by omega)
      | succ d ih =>
        intro t f_counted1 a_place1 a_nodeAt1 a_end1 a_up1 a_children1 a_above1 a_named1 a_valueAt1 a_table1 a_results1 a_known1 a_along1 a_stack1 ma ch ht c1 c2 c3 h1 h2
        obtain ⟨m1, m2⟩ := hM t (by omega)
        have ct : (nI t).toNatClampNeg = t := nI_clamp (by omega)
        have em : a_match (nI t).toNatClampNeg = tm_mo (mo t) := by rw [ct]; exact m1
        -- a template that matches nothing
        have skip : tm_M c D ln KK (sm_R c D nm va ln KK VV) (mo t) = 0 → wX_sort_42 post (d + 1) (nI (t + 1)) f_root f_used f_counted1 1 f_put a_names a_values a_parent a_first a_next a_place1 a_nodeAt1 a_end1 a_up1 a_children1 a_above1 a_named1 a_valueAt1 a_kinds a_vals a_types a_behind a_local a_length a_open a_table1 a_results1 a_known1 a_along1 a_stack1 a_match a_priority a_out a_on (upd ma t 0) ch a_waiting a_depths a_outputs := by
          intro e
          refine ih (t + 1) _ _ _ _ _ _ _ _ _ _ _ _ _ _ (upd ma t 0) ch (by omega) c1 c2 c3 (fun q hq => ?_) (fun x hx => ?_)
          · by_cases z : q = t
            · rw [z, pk_us, e]
            · rw [pk_un z]; exact h1 q (by omega)
          · rw [h2 x hx, tm_best, if_neg]
            rw [e, b_0]; decide
        refine pk_le 6 t (fun z => by omega) (fun _ => ⟨pk_in t 6 (by omega), nm_r (up_cl (by omega) rfl) ⟨pk_in t 6 (by omega), ?_⟩⟩)
        cases hm : mo t with
        | none =>
          rw [hm] at skip
          exact nm_r (e' := -1) (by rw [em, hm]; rfl) (br_t (by decide) (nm_r (nI_1 t) (skip rfl)))
        | some m =>
          have hm8 := m2 m hm
          have cm : (nI m).toNatClampNeg = m := nI_clamp (by omega)
          obtain ⟨l1, l2⟩ := SL m hm8
          have el : a_length (nI m).toNatClampNeg = nI (ln m) := by rw [cm]; exact l1
          rw [hm] at skip
          refine nm_r (e' := nI m) (by rw [em, hm]; rfl) (br_f (nI_pos (by omega)) ⟨pk_in m 9 (by omega), ?_⟩)
          by_cases hl : ln m = 0
          · refine br_t (by rw [el, hl]; rfl) (nm_r (nI_1 t) (skip ?_))
            have : tm_set ln KK m = false := decide_eq_false (by omega)
            rw [tm_M_s, if_neg (by rw [this]; decide)]
          · obtain ⟨E, S⟩ := l2 (by omega)
            have hn := E.2.1
            have ln0 : a_length (nI m).toNatClampNeg ≠ 0 := by rw [el]; exact nI_ne0 (by omega) (by omega)
            have e40 := x40 m
            have et : a_types ((40 : Int32) * nI m).toNatClampNeg = nI (ex_ty (KK m 0)) := by rw [cl_n e40 (by omega)]; exact (S 0 (by omega)).2.2.1
            have hty := ex_ty_le (KK m 0)
            refine br_f ln0 ⟨pk_in (40 * m) 360 (by omega) e40, pk_eq (ex_ty (KK m 0)) 0 (fun t0 => ?_) (fun t0 => nm_r (nI_1 t) (skip ?_)) et⟩
            · have hset : tm_set ln KK m = true := decide_eq_true ⟨by omega, ex_ty_0.mp t0⟩
              have eM : tm_M c D ln KK (sm_R c D nm va ln KK VV) (some m) = bs_fs c (tm_fit c D (sm_R c D nm va ln KK VV m) c) := by rw [tm_M_s, if_pos hset]
              refine tx_learn W hc0 T (fun _ => c2) hm8 E S l1 (R := sm_R c D nm va ln KK VV) (fun x hx => rfl) c3 (fun f_counted2 a_place2 a_nodeAt2 a_end2 a_up2 a_children2 a_above2 a_named2 a_valueAt2 a_table2 a_results2 a_known2 a_along2 a_stack2 d1 d2 d3 d4 => ?_)
              -- the set
              have L97 : ∀ d' j ma', j + d' = c → ma' t = bs_fs c (tm_fit c D (sm_R c D nm va ln KK VV m) j) → (∀ q, q < t → ma' q = ma q) → wX_sort_97 post (wX_sort_42 post (d + 1)) (nI t) (nI m) f_root f_used f_counted2 1 f_put (d' + 1) (nI j) a_names a_values a_parent a_first a_next a_place2 a_nodeAt2 a_end2 a_up2 a_children2 a_above2 a_named2 a_valueAt2 a_kinds a_vals a_types a_behind a_local a_length a_open a_table2 a_results2 a_known2 a_along2 a_stack2 a_match a_priority a_out a_on ma' ch a_waiting a_depths a_outputs := by
                intro d'
                induction d' with
                | zero =>
                  intro j ma' hj e1 e2
                  have ej : j = c := by omega
                  subst ej
                  have hok : bs_ok j (bs_fs j (tm_fit j D (sm_R j D nm va ln KK VV m) j)) := bs_fs_ok (by omega) _
                  have ema : ma' (nI t).toNatClampNeg = bs_fs j (tm_fit j D (sm_R j D nm va ln KK VV m) j) := by rw [ct]; exact e1
                  refine pk_le j j (fun _ => ⟨pk_in t 6 (by omega), nm_r ema ?_⟩) (fun z => by omega) hu
                  have h := tx_sort149 (f_root := f_root) (f_used := f_used) (f_counted := f_counted2) (f_sorted := 1) (f_put := f_put) (a_table := a_table2) (a_along := a_along2) (a_stack := a_stack2) (post := post) hc (t := t) (by omega) (b0 := fun x => tm_best (fun t => bt (tm_M j D ln KK (sm_R j D nm va ln KK VV) (mo t)) x) a_priority t) (fun x b hb => by have := tm_best_lt t hb; omega) (J42 := wX_sort_42 post (d + 1)) (M := bs_els (bs_fs j (tm_fit j D (sm_R j D nm va ln KK VV m) j))) (fun ch' hch' => ih (t + 1) _ _ _ _ _ _ _ _ _ _ _ _ _ _ ma' ch' (by omega) d1 d2 d4 (fun q hq => ?_) (fun x hx => ?_)) (bs_els (bs_fs j (tm_fit j D (sm_R j D nm va ln KK VV m) j))) [] ch (bs_els_asc _) (fun k hk => bs_ok_els hok hk) (fun k => by simp) (fun k hk => by simp at hk) (fun x hx => by rw [h2 x hx, if_neg (by simp)])
                  · rw [bs_bo_els hok hc] at h
                    exact ⟨_, h⟩
                  · by_cases z : q = t
                    · rw [z, e1, hm, eM]
                    · rw [e2 q (by omega)]; exact h1 q (by omega)
                  · rw [hch' x hx, tm_best]
                    have ef : (bt (tm_M j D ln KK (sm_R j D nm va ln KK VV) (mo t)) x = true) ↔ x ∈ bs_els (bs_fs j (tm_fit j D (sm_R j D nm va ln KK VV m) j)) := by
                      rw [hm, eM, bs_els_mem]
                      exact ⟨fun z => ⟨by omega, z⟩, fun z => z.2⟩
                    by_cases z : x ∈ bs_els (bs_fs j (tm_fit j D (sm_R j D nm va ln KK VV m) j))
                    · rw [if_pos z, if_pos (ef.mpr z)]
                    · rw [if_neg z, if_neg (fun w => z (ef.mp w))]
                | succ d' ih2 =>
                  intro j ma' hj e1 e2
                  obtain ⟨b1, b2, b3, b4⟩ := tr_be_spec (c := c) (D := D) (i := j) (by omega)
                  have een : a_end2 (nI j).toNatClampNeg = nI (tr_be c D j) - 1 := by
                    rw [nI_clamp (by omega), (d2.1 j (by omega)).2.2.1]
                    obtain ⟨f, hf⟩ : ∃ f, tr_be c D j = f + 1 := ⟨tr_be c D j - 1, by omega⟩
                    rw [hf, nI_pred]; rfl
                  refine pk_le c j (fun z => by omega) (fun _ => ⟨pk_in t 6 (by omega), pk_in (24 * m + j) 192 (by omega) (x24 m j), pk_in j 24 (by omega), tx_iv (by omega) (by omega) een ⟨pk_in t 6 (by omega), ?_⟩⟩) hu
                  have ev : ma' (nI t).toNatClampNeg ||| (a_results2 ((24 : Int32) * nI m + nI j).toNatClampNeg &&& bs_fs 24 (fun i => decide (j ≤ i ∧ i < tr_be c D j))) = bs_fs c (tm_fit c D (sm_R c D nm va ln KK VV m) (j + 1)) := by
                    rw [ct, e1, cl_n (x24 m j) (by omega), d4 m hm8 d3 j (by omega)]
                    apply b_ext
                    intro q _
                    rw [b_or, b_and, bs_fs_bt (by omega), bs_fs_bt (by omega), bs_fs_bt (by omega)]
                    unfold tm_fit
                    rw [tm_any_s]
                    show _ = (decide (q < c) && ((List.range j).any (tm_hit c D (sm_R c D nm va ln KK VV m) q) || (decide (j ≤ q ∧ q < tr_be c D j) && bt (sm_R c D nm va ln KK VV m j) q)))
                    by_cases l : q < c
                    · rw [decide_eq_true l, decide_eq_true (by omega : q < 24), Bool.true_and, Bool.true_and, Bool.true_and, Bool.and_comm (bt _ _)]
                    · have : ¬ (j ≤ q ∧ q < tr_be c D j) := by omega
                      rw [decide_eq_false l, decide_eq_false this]; simp
                  refine nm_r (up_cl (by omega) ev) (nm_r (nI_1 j) (ih2 (j + 1) _ (by omega) (by rw [pk_us]) (fun q hq => ?_)))
                  rw [pk_un (by omega)]; exact e2 q hq
              have h := L97 c 0 (upd ma t 0) (by omega) (by
                rw [pk_us]
                exact (bs_fs_none (by omega) (fun i _ => rfl)).symm) (fun q hq => by rw [pk_un (by omega)])
              rw [nI_0] at h
              exact ⟨_, h⟩
            · have : tm_set ln KK m = false := decide_eq_false (fun w => t0 (ex_ty_0.mpr w.2))
              rw [tm_M_s, if_neg (by rw [this]; decide)]
    have L19 : ∀ d j ch, j + d = c → (∀ x, x < j → ch x = -1) → wX_sort_19 post f_root f_used f_counted' 1 f_put (d + 1) (nI j) a_names a_values a_parent a_first a_next a_place' a_nodeAt' a_end' a_up' a_children' a_above' a_named' a_valueAt' a_kinds a_vals a_types a_behind a_local a_length a_open a_table a_results a_known a_along a_stack a_match a_priority a_out a_on a_matched ch a_waiting a_depths a_outputs := by
      intro d
      induction d with
      | zero =>
        intro j ch hj h1
        refine pk_le c j (fun _ => ?_) (fun z => by omega) hu
        have h := L42 6 0 f_counted' a_place' a_nodeAt' a_end' a_up' a_children' a_above' a_named' a_valueAt' a_table a_results a_known a_along a_stack a_matched ch (by omega) hcn CT hR (fun q hq => by omega) (fun x hx => by rw [h1 x (by omega)]; rfl)
        rw [nI_0] at h
        exact ⟨_, h⟩
      | succ d ih =>
        intro j ch hj h1
        refine pk_le c j (fun z => by omega) (fun _ => ⟨pk_in j 24 (by omega), nm_r (up_cl (by omega) bs_nb1) (nm_r (nI_1 j) (ih (j + 1) _ (by omega) (fun x hx => ?_)))⟩) hu
        by_cases e : x = j
        · rw [e, pk_us]
        · rw [pk_un e]; exact h1 x (by omega)
    have h := L19 c 0 a_chosen (by omega) (fun x hx => by omega)
    rw [nI_0] at h
    exact ⟨_, h⟩
  · exact br_f hs (hp _ _ _ _ _ _ _ _ _ _ _ _ _ _ _ _ _ hcn CT hR hs (hS hs))
end
end
section
/-! ===== Y.isSet, Y.matches, Y.best, Y.childrenOf ===== -/
def yy_M (mo : Nat → Option Nat) (there mat : Nat → Int32) : Prop := ∀ t, t < 6 → (mo t = none ∧ there t = 0) ∨ ∃ m, m < 8 ∧ mo t = some m ∧ there t = 1 ∧ mat t = nI m
section
variable {c : Nat} {r D nm : Nat → Nat} {va : Nat → Int32} {ln : Nat → Nat} {KK : Nat → Nat → Nat} {VV : Nat → Nat → Int32} {mo : Nat → Option Nat} {g_count g_top g_listed g_outputs : Int32} {b_row b_depth b_name b_value b_moved b_kind b_with b_length b_sets b_fresh b_type b_number b_set b_list b_there b_match b_priority b_out b_on b_todo b_within b_output : Nat → Int32}
theorem ty_isSet (SL : yy_SL ln KK VV b_length b_kind b_with) {post : Int32 → Prop} {s : Nat} (hs : s < 8) (hp : post (lb (tm_set ln KK s))) : wpY_isSet post (g_count, g_top, g_listed, g_outputs, b_row, b_depth, b_name, b_value, b_moved, b_kind, b_with, b_length, b_sets, b_fresh, b_type, b_number, b_set, b_list, b_there, b_match, b_priority, b_out, b_on, b_todo, b_within, b_output) (nI s) := by
  obtain ⟨l1, l2⟩ := SL s hs
  have cs : (nI s).toNatClampNeg = s := nI_clamp (by omega)
  have el : b_length (nI s).toNatClampNeg = nI (ln s) := by rw [cs]; exact l1
  refine ⟨pk_in s 9 (by omega), ?_⟩
  by_cases z : ln s = 0
  · refine br_t (by rw [el, z]; decide) ?_
    have : tm_set ln KK s = false := decide_eq_false (by omega)
    rw [this] at hp; exact hp
  · obtain ⟨E, S⟩ := l2 (by omega)
    have hn := E.2.1
    have k17 := (E.2.2.2.1 0 E.1).1
    have e40 := x40 s
    have ek : b_kind ((40 : Int32) * nI s).toNatClampNeg = nI (KK s 0) := by rw [cl_n e40 (by omega)]; exact (S 0 E.1).1
    refine br_f (by rw [el]; exact nI_nle (by omega) (by omega)) ⟨pk_in (40 * s) 360 (by omega) e40, pk_le 4 (KK s 0) (fun y => ?_) (fun y => ?_) rfl ek⟩
    · have : tm_set ln KK s = false := decide_eq_false (by omega)
      rw [this] at hp; exact hp
    · have : tm_set ln KK s = true := decide_eq_true (by omega)
      rw [this] at hp; exact hp
theorem sm_R_ok (hc : c ≤ 24) (hc0 : 0 < c) {s x : Nat} (E : ex_E (ln s) (KK s) (VV s)) (h4 : KK s 0 < 4) (hx : x < c) : bs_ok c (sm_R c D nm va ln KK VV s x) :=
  sm_ev_ok hc hc0 _ 0 (Nat.le_refl _) E.1 E (ex_ty_0.mpr h4) x hx 1 1
theorem ty_matches (W : tr_TW c r D nm) (T : yy_t g_count b_row b_depth b_name b_value c r D nm va) (hln40 : ∀ t, ln t ≤ 40) (SL : yy_SL ln KK VV b_length b_kind b_with) (hM : yy_M mo b_there b_match)
    {t k : Nat} (ht : t < 6) (hk : k < c) (hF : yy_fr c r D nm va ln KK VV b_fresh b_sets) {post : Int32 → SY → Prop} (hp : ∀ (g_top' g_listed' : Int32) (b_sets' b_fresh' b_type' b_number' b_set' b_list' : Nat → Int32), yy_fr c r D nm va ln KK VV b_fresh' b_sets' → post (lb (bt (tm_M c D ln KK (sm_R c D nm va ln KK VV) (mo t)) k)) (g_count, g_top', g_listed', g_outputs, b_row, b_depth, b_name, b_value, b_moved, b_kind, b_with, b_length, b_sets', b_fresh', b_type', b_number', b_set', b_list', b_there, b_match, b_priority, b_out, b_on, b_todo, b_within, b_output)) :
    wpY_matches post (g_count, g_top, g_listed, g_outputs, b_row, b_depth, b_name, b_value, b_moved, b_kind, b_with, b_length, b_sets, b_fresh, b_type, b_number, b_set, b_list, b_there, b_match, b_priority, b_out, b_on, b_todo, b_within, b_output) (nI t) (nI (r k)) := by
  have hc := W.1
  have hr := W.2.1
  have hrk := hr k hk
  have TT : yy_T (g_count, g_top, g_listed, g_outputs, b_row, b_depth, b_name, b_value, b_moved, b_kind, b_with, b_length, b_sets, b_fresh, b_type, b_number, b_set, b_list, b_there, b_match, b_priority, b_out, b_on, b_todo, b_within, b_output) c r D nm va := T
  have ct : (nI t).toNatClampNeg = t := nI_clamp (by omega)
  unfold wpY_matches
  refine ty_inN (a := 0) (b := 5) (by omega) (by omega) (by omega) (fun _ => br_f (by decide) ⟨pk_in t 6 ht, ?_⟩) (fun z => by omega)
  rcases hM t ht with ⟨m1, m2⟩ | ⟨m, m8, m1, m2, m3⟩
  · refine br_t (by rw [ct]; exact m2) ?_
    have h := hp g_top g_listed b_sets b_fresh b_type b_number b_set b_list hF
    rw [m1, show tm_M c D ln KK (sm_R c D nm va ln KK VV) none = 0 from rfl, b_0] at h
    exact h
  · refine br_f (by rw [ct, m2]; decide) (ty_where1 (v := (g_count, g_top, g_listed, g_outputs, b_row, b_depth, b_name, b_value, b_moved, b_kind, b_with, b_length, b_sets, b_fresh, b_type, b_number, b_set, b_list, b_there, b_match, b_priority, b_out, b_on, b_todo, b_within, b_output)) W TT hk (br_f (nI_pos (by omega)) ⟨pk_in t 6 ht, ?_⟩))
    have em : b_match (nI t).toNatClampNeg = nI m := by rw [ct]; exact m3
    refine ek_v (P := fun w => wpY_isSet _ _ w) em (ty_isSet SL m8 (lb_br (fun hset => ?_) (fun hset => ?_)))
    · have hset' := of_decide_eq_true hset
      obtain ⟨l1, l2⟩ := SL m m8
      obtain ⟨E, S⟩ := l2 hset'.1
      have loop : ∀ d j g_top' g_listed' b_sets' b_fresh' b_type' b_number' b_set' b_list', j + d = c → yy_fr c r D nm va ln KK VV b_fresh' b_sets' → (∀ x, x < j → tm_hit c D (sm_R c D nm va ln KK VV m) k x = false) → wY_matches_43 post (nI t) (nI (r k)) (d + 1) (nI j) g_count g_top' g_listed' g_outputs b_row b_depth b_name b_value b_moved b_kind b_with b_length b_sets' b_fresh' b_type' b_number' b_set' b_list' b_there b_match b_priority b_out b_on b_todo b_within b_output := by
        intro d
        induction d with
        | zero =>
          intro j g_top' g_listed' b_sets' b_fresh' b_type' b_number' b_set' b_list' hj hF' h0
          refine pk_le c j (fun _ => ?_) (fun z => by omega) T.1
          have h := hp g_top' g_listed' b_sets' b_fresh' b_type' b_number' b_set' b_list' hF'
          have e : bt (tm_M c D ln KK (sm_R c D nm va ln KK VV) (mo t)) k = false := by
            rw [m1, tm_M_s, if_pos hset, bs_fs_bt (by omega), decide_eq_true hk, Bool.true_and]
            apply ts_nt
            intro z
            obtain ⟨x, x1, x2⟩ := List.any_eq_true.mp z
            rw [h0 x (by have := List.mem_range.mp x1; omega)] at x2
            exact absurd x2 (by decide)
          rw [e] at h
          exact h
        | succ d ih =>
          intro j g_top' g_listed' b_sets' b_fresh' b_type' b_number' b_set' b_list' hj hF' h0
          have hrj := hr j (by omega)
          have er : b_row (nI j).toNatClampNeg = nI (r j) := by rw [nI_clamp (by omega)]; exact (T.2 j (by omega)).1
          have okj : bs_ok c (sm_R c D nm va ln KK VV m j) := sm_R_ok hc (by omega) E hset'.2 (by omega)
          have TT' : yy_T (g_count, g_top', g_listed', g_outputs, b_row, b_depth, b_name, b_value, b_moved, b_kind, b_with, b_length, b_sets', b_fresh', b_type', b_number', b_set', b_list', b_there, b_match, b_priority, b_out, b_on, b_todo, b_within, b_output) c r D nm va := T
          have skip : ∀ (g_top1 g_listed1 : Int32) (b_sets1 b_fresh1 b_type1 b_number1 b_set1 b_list1 : Nat → Int32), yy_fr c r D nm va ln KK VV b_fresh1 b_sets1 → tm_hit c D (sm_R c D nm va ln KK VV m) k j = false → wY_matches_43 post (nI t) (nI (r k)) (d + 1) (nI (j + 1)) g_count g_top1 g_listed1 g_outputs b_row b_depth b_name b_value b_moved b_kind b_with b_length b_sets1 b_fresh1 b_type1 b_number1 b_set1 b_list1 b_there b_match b_priority b_out b_on b_todo b_within b_output := by
            intro g_top1 g_listed1 b_sets1 b_fresh1 b_type1 b_number1 b_set1 b_list1 hF1 h
            refine ih (j + 1) _ _ _ _ _ _ _ _ (by omega) hF1 (fun x hx => ?_)
            by_cases e : x = j
            · rw [e]; exact h
            · exact h0 x (by omega)
          have k75 : j ≤ k → k < tr_be c D j → wY_matches_75 post (wY_matches_43 post (nI t) (nI (r k)) (d + 1)) (nI t) (nI (r k)) (nI j) (nI (r j)) g_count g_top' g_listed' g_outputs b_row b_depth b_name b_value b_moved b_kind b_with b_length b_sets' b_fresh' b_type' b_number' b_set' b_list' b_there b_match b_priority b_out b_on b_todo b_within b_output := by
            intro z1 z2
            have hit : tm_hit c D (sm_R c D nm va ln KK VV m) k j = bt (sm_R c D nm va ln KK VV m j) k := by
              unfold tm_hit; rw [decide_eq_true ⟨z1, z2⟩, Bool.true_and]
            refine br_f (by decide) ⟨pk_in t 6 ht, ek_v (P := fun w => wpY_ask _ _ w _) em (ty_ask W T hln40 m8 (by omega) E S l1 hF' (fun g_top1 g_listed1 b_sets1 b_fresh1 b_type1 b_number1 b_set1 b_list1 hF1 sk => ?_))⟩
            have es : b_set1 0 = sm_im r (sm_R c D nm va ln KK VV m j) := sk.2.1 (ex_ty_0.mpr hset'.2)
            have ec : (b_set1 0 >>> (nI (r k) &&& 31)) &&& 1 = (sm_im r (sm_R c D nm va ln KK VV m j) >>> (nI (r k) &&& 31)) &&& 1 := by rw [es]
            have eb := im_bt hc hr W.2.2.1 okj hk
            by_cases y : bt (sm_R c D nm va ln KK VV m j) k = true
            · refine br_t (ec.trans ((bs_t1 (by omega)).mpr (eb.trans y))) ?_
              have h := hp g_top1 g_listed1 b_sets1 b_fresh1 b_type1 b_number1 b_set1 b_list1 hF1
              have e : bt (tm_M c D ln KK (sm_R c D nm va ln KK VV) (mo t)) k = true := by
                rw [m1, tm_M_s, if_pos hset, bs_fs_bt (by omega), decide_eq_true hk, Bool.true_and]
                exact List.any_eq_true.mpr ⟨j, List.mem_range.mpr (by omega), by rw [hit]; exact y⟩
              rw [e] at h
              exact h
            · exact br_f (fun w => y (eb.symm.trans ((bs_t1 (by omega)).mp (ec.symm.trans w)))) (nm_r (nI_1 j) (skip _ _ _ _ _ _ _ _ hF1 (by rw [hit]; exact ts_nt y)))
          refine pk_le c j (fun z => by omega) (fun _ => ⟨pk_in j 24 (by omega), nm_r er ?_⟩) T.1
          by_cases e : j = k
          · subst e
            exact br_t rfl (k75 (Nat.le_refl _) (tr_be_spec (D := D) hk).1)
          · have ne : ¬ nI (r j) = nI (r k) := fun z => e (W.2.2.1 j k (by omega) hk ((nI_eq (by omega) (by omega)).mp z))
            refine br_f ne (ty_isBelow (v := (g_count, g_top', g_listed', g_outputs, b_row, b_depth, b_name, b_value, b_moved, b_kind, b_with, b_length, b_sets', b_fresh', b_type', b_number', b_set', b_list', b_there, b_match, b_priority, b_out, b_on, b_todo, b_within, b_output)) W TT' (i := j) (k := k) (by omega) hk (fun z => br_f (by decide) (k75 (by omega) z.2)) (fun z => br_t rfl (br_t rfl (nm_r (nI_1 j) (skip _ _ _ _ _ _ _ _ hF' ?_)))))
            unfold tm_hit
            rw [decide_eq_false (by omega), Bool.false_and]
      have h := loop c 0 g_top g_listed b_sets b_fresh b_type b_number b_set b_list (by omega) hF (fun x hx => by omega)
      rw [nI_0] at h
      exact ⟨_, h⟩
    · have h := hp g_top g_listed b_sets b_fresh b_type b_number b_set b_list hF
      rw [m1, tm_M_s, if_neg (by rw [hset]; decide), b_0] at h
      exact h
theorem ty_best (W : tr_TW c r D nm) (T : yy_t g_count b_row b_depth b_name b_value c r D nm va) (hln40 : ∀ t, ln t ≤ 40) (SL : yy_SL ln KK VV b_length b_kind b_with) (hM : yy_M mo b_there b_match)
    {k : Nat} (hk : k < c) (hF : yy_fr c r D nm va ln KK VV b_fresh b_sets) {post : Int32 → SY → Prop} (hp : ∀ (g_top' g_listed' : Int32) (b_sets' b_fresh' b_type' b_number' b_set' b_list' : Nat → Int32), yy_fr c r D nm va ln KK VV b_fresh' b_sets' → post (tr_nd id (tm_best (fun t => bt (tm_M c D ln KK (sm_R c D nm va ln KK VV) (mo t)) k) b_priority 6)) (g_count, g_top', g_listed', g_outputs, b_row, b_depth, b_name, b_value, b_moved, b_kind, b_with, b_length, b_sets', b_fresh', b_type', b_number', b_set', b_list', b_there, b_match, b_priority, b_out, b_on, b_todo, b_within, b_output)) :
    wpY_best post (g_count, g_top, g_listed, g_outputs, b_row, b_depth, b_name, b_value, b_moved, b_kind, b_with, b_length, b_sets, b_fresh, b_type, b_number, b_set, b_list, b_there, b_match, b_priority, b_out, b_on, b_todo, b_within, b_output) (nI (r k)) := by
  have loop : ∀ d t g_top' g_listed' b_sets' b_fresh' b_type' b_number' b_set' b_list', t + d = 6 → yy_fr c r D nm va ln KK VV b_fresh' b_sets' → wY_best_4 post (nI (r k)) (d + 1) (tr_nd id (tm_best (fun t => bt (tm_M c D ln KK (sm_R c D nm va ln KK VV) (mo t)) k) b_priority t)) (nI t) g_count g_top' g_listed' g_outputs b_row b_depth b_name b_value b_moved b_kind b_with b_length b_sets' b_fresh' b_type' b_number' b_set' b_list' b_there b_match b_priority b_out b_on b_todo b_within b_output := by
    intro d
    induction d with
    | zero =>
      intro t g_top' g_listed' b_sets' b_fresh' b_type' b_number' b_set' b_list' ht hF'
      have e : t = 6 := by omega
      subst e
      exact pk_le 6 6 (fun _ => hp _ _ _ _ _ _ _ _ hF') (fun z => by omega)
    | succ d ih =>
      intro t g_top' g_listed' b_sets' b_fresh' b_type' b_number' b_set' b_list' ht hF'
      have ct : (nI t).toNatClampNeg = t := nI_clamp (by omega)
      refine pk_le 6 t (fun z => by omega) (fun _ => ty_matches W T hln40 SL hM (by omega) hk hF' (fun g_top1 g_listed1 b_sets1 b_fresh1 b_type1 b_number1 b_set1 b_list1 hF1 => lb_br (fun hf => ?_) (fun hf => ?_)))
      · have next := ih (t + 1) g_top1 g_listed1 b_sets1 b_fresh1 b_type1 b_number1 b_set1 b_list1 (by omega) hF1
        simp only [tm_best, if_pos hf] at next
        cases e : tm_best (fun t => bt (tm_M c D ln KK (sm_R c D nm va ln KK VV) (mo t)) k) b_priority t with
        | none =>
          rw [e] at next
          exact br_t (show (-1 : Int32) < 0 by decide) (nm_r (nI_1 t) next)
        | some b =>
          rw [e] at next
          have hb := tm_best_lt t e
          have cb : (nI b).toNatClampNeg = b := nI_clamp (by omega)
          refine br_f (show ¬ nI b < 0 from nI_pos (by omega)) ⟨pk_in t 6 (by omega), pk_in b 6 (by omega), ?_⟩
          have p1 : b_priority (nI t).toNatClampNeg = b_priority t := by rw [ct]
          have p2 : b_priority (tr_nd id (some b)).toNatClampNeg = b_priority b := by show b_priority (nI b).toNatClampNeg = _; rw [cb]
          by_cases z : b_priority t < b_priority b
          · simp only [if_pos z] at next
            exact br_t (by rw [p1, p2]; exact z) (nm_r (nI_1 t) next)
          · simp only [if_neg z] at next
            exact br_f (by rw [p1, p2]; exact z) (nm_r (nI_1 t) next)
      · have next := ih (t + 1) g_top1 g_listed1 b_sets1 b_fresh1 b_type1 b_number1 b_set1 b_list1 (by omega) hF1
        simp only [tm_best, if_neg (show ¬ bt (tm_M c D ln KK (sm_R c D nm va ln KK VV) (mo t)) k = true by rw [hf]; decide)] at next
        exact nm_r (nI_1 t) next
  have h := loop 6 0 g_top g_listed b_sets b_fresh b_type b_number b_set b_list (by omega) hF
  rw [nI_0] at h
  exact ⟨_, h⟩
theorem ty_childrenOf (W : tr_TW c r D nm) (T : yy_t g_count b_row b_depth b_name b_value c r D nm va) {post : Int32 → Prop} {x : Nat} (hx : x < c) (hp : post (sm_im r (bs_fs c (fun k => decide (tr_pr D k = some x))))) : wpY_childrenOf post (g_count, g_top, g_listed, g_outputs, b_row, b_depth, b_name, b_value, b_moved, b_kind, b_with, b_length, b_sets, b_fresh, b_type, b_number, b_set, b_list, b_there, b_match, b_priority, b_out, b_on, b_todo, b_within, b_output) (nI (r x)) := by
  have hc := W.1
  have hr := W.2.1
  have hrx := hr x hx
  have TT : yy_T (g_count, g_top, g_listed, g_outputs, b_row, b_depth, b_name, b_value, b_moved, b_kind, b_with, b_length, b_sets, b_fresh, b_type, b_number, b_set, b_list, b_there, b_match, b_priority, b_out, b_on, b_todo, b_within, b_output) c r D nm va := T
  have loop : ∀ d j acc, j + d = c → acc = sm_im r (bs_fs j (fun k => decide (tr_pr D k = some x))) → wY_childrenOf_4 post (nI (r x)) g_count g_top g_listed g_outputs b_row b_depth b_name b_value b_moved b_kind b_with b_length b_sets b_fresh b_type b_number b_set b_list b_there b_match b_priority b_out b_on b_todo b_within b_output (d + 1) acc (nI j) := by
    intro d
    induction d with
    | zero =>
      intro j acc hj ha
      have e : j = c := by omega
      subst e; subst ha
      exact pk_le j j (fun _ => hp) (fun z => by omega) T.1
    | succ d ih =>
      intro j acc hj ha
      have hrj := hr j (by omega)
      have er : b_row (nI j).toNatClampNeg = nI (r j) := by rw [nI_clamp (by omega)]; exact (T.2 j (by omega)).1
      refine pk_le c j (fun z => by omega) (fun _ => ⟨pk_in j 24 (by omega), ek_v (P := fun w => wpY_parentOf _ _ w) er (ty_parentOf (v := (g_count, g_top, g_listed, g_outputs, b_row, b_depth, b_name, b_value, b_moved, b_kind, b_with, b_length, b_sets, b_fresh, b_type, b_number, b_set, b_list, b_there, b_match, b_priority, b_out, b_on, b_todo, b_within, b_output)) W TT (by omega) ?_)⟩) T.1
      have iff : tr_nd r (tr_pr D j) = nI (r x) ↔ tr_pr D j = some x := by
        cases e : tr_pr D j with
        | none =>
          constructor
          · intro z
            have z : (-1 : Int32) = nI (r x) := z
            have h0 : ¬ nI (r x) < 0 := nI_pos (by omega)
            rw [← z] at h0
            exact absurd (by decide) h0
          · intro z; exact absurd z (by simp)
        | some p =>
          have hpj := (tr_pr_some e).1
          have := hr p (by omega)
          show nI (r p) = nI (r x) ↔ _
          rw [nI_eq (by omega) (by omega)]
          exact ⟨fun z => by rw [W.2.2.1 p x (by omega) hx z], fun z => by rw [Option.some.inj z]⟩
      by_cases z : tr_pr D j = some x
      · have ev : acc ||| ((1 : Int32) <<< (b_row (nI j).toNatClampNeg &&& 31)) = sm_im r (bs_fs (j + 1) (fun k => decide (tr_pr D k = some x))) := by
          rw [er, ha, bs_fs_s (by omega), if_pos (decide_eq_true z)]
          show sm_im r _ ||| bs_oh (r j) = _
          rw [im_oh hc hr W.2.2.1 (by omega), im_or hc hr W.2.2.1 (bs_ok_mono (bs_fs_ok (by omega) _) (by omega)) (bs_oh_ok (by omega) (by omega))]
        exact br_t (iff.mpr z) ⟨pk_in j 24 (by omega), nm_r ev (nm_r (nI_1 j) (ih (j + 1) _ (by omega) rfl))⟩
      · refine br_f (fun w => z (iff.mp w)) (nm_r (nI_1 j) (ih (j + 1) _ (by omega) ?_))
        rw [ha, bs_fs_s (by omega), if_neg (by rw [decide_eq_false z]; decide)]
  have h := loop c 0 0 (by omega) (by
    rw [bs_fs_0]
    exact ((im_0 hc hr W.2.2.1 (bs_0_ok c)).mpr rfl).symm)
  rw [nI_0] at h
  exact ⟨_, h⟩
end
end
section
/-! ===== transform: the machine; X's side ===== -/
def tm_onv (ln : Nat → Nat) (KK : Nat → Nat → Nat) (R : Nat → Nat → Int32) (o : Option Nat) (x : Nat) : Int32 := match o with
  | none => 0
  | some s => if tm_set ln KK s = true then R s x else 0
def tm_ouv (va : Nat → Int32) (ln : Nat → Nat) (KK : Nat → Nat → Nat) (R : Nat → Nat → Int32) (o : Option Nat) (x : Nat) : List Int32 := match o with
  | none => []
  | some s => if 0 < ln s then [sm_pl va (ex_ty (KK s 0)) (R s x)] else []
def tm_ks (c : Nat) (D : Nat → Nat) (ln : Nat → Nat) (KK : Nat → Nat → Nat) (R : Nat → Nat → Int32) (no : Nat → Option Nat) (b : Option Nat) (x : Nat) : Int32 := match b with
  | none => bs_fs c (fun k => decide (tr_pr D k = some x))
  | some t => tm_onv ln KK R (no t) x
def tm_os (va : Nat → Int32) (ln : Nat → Nat) (KK : Nat → Nat → Nat) (R : Nat → Nat → Int32) (oo : Nat → Option Nat) (b : Option Nat) (x : Nat) : List Int32 := match b with
  | none => []
  | some t => tm_ouv va ln KK R (oo t) x
def tm_tf (ks : Nat → Int32) (os : Nat → List Int32) : Nat → List (Nat × Nat) → Nat → List Int32 → Option (List Int32)
  | 0, _, _, _ => none
  | _ + 1, [], _, o => some o
  | f + 1, p :: S, h, o => if 100 < h + 1 ∨ 11 < p.2 then none else tm_tf ks os f ((bs_els (ks p.1)).map (fun y => (y, p.2 + 1)) ++ S) (h + 1) (o ++ os p.1)
theorem tm_tf_s {ks : Nat → Int32} {os : Nat → List Int32} {f h x d : Nat} {S : List (Nat × Nat)} {o : List Int32} : tm_tf ks os (f + 1) ((x, d) :: S) h o = if 100 < h + 1 ∨ 11 < d then none else tm_tf ks os f ((bs_els (ks x)).map (fun y => (y, d + 1)) ++ S) (h + 1) (o ++ os x) := rfl
/-! stacks and outputs in arrays -/
def tm_sk (rr : Nat → Nat) (w dp : Nat → Int32) : List (Nat × Nat) → Prop
  | [] => True
  | p :: S => w S.length = nI (rr p.1) ∧ dp S.length = nI p.2 ∧ tm_sk rr w dp S
theorem tm_sk_up {rr : Nat → Nat} {w dp : Nat → Int32} {m : Nat} {a b : Int32} : ∀ S : List (Nat × Nat), S.length ≤ m → tm_sk rr w dp S → tm_sk rr (upd w m a) (upd dp m b) S
  | [], _, _ => trivial
  | p :: S, hm, h => by
    rw [List.length_cons] at hm
    exact ⟨by rw [pk_un (by omega)]; exact h.1, by rw [pk_un (by omega)]; exact h.2.1, tm_sk_up S (by omega) h.2.2⟩
theorem tm_sk_push {rr : Nat → Nat} {w dp : Nat → Int32} {S : List (Nat × Nat)} {x d : Nat} (h : tm_sk rr w dp S) : tm_sk rr (upd w S.length (nI (rr x))) (upd dp S.length (nI d)) ((x, d) :: S) :=
  ⟨pk_us, pk_us, tm_sk_up S (Nat.le_refl _) h⟩
def om_ar (a : Nat → Int32) : Nat → List Int32 → Prop
  | _, [] => True
  | j, v :: L => a j = v ∧ om_ar a (j + 1) L
theorem om_ar_up {a : Nat → Int32} {m : Nat} {w : Int32} : ∀ (L : List Int32) (j : Nat), j + L.length ≤ m → om_ar a j L → om_ar (upd a m w) j L
  | [], _, _, _ => trivial
  | v :: L, j, hm, h => by
    rw [List.length_cons] at hm
    exact ⟨by rw [pk_un (by omega)]; exact h.1, om_ar_up L (j + 1) (by omega) h.2⟩
theorem om_ar_app {a : Nat → Int32} : ∀ (L M : List Int32) (j : Nat), om_ar a j L → om_ar a (j + L.length) M → om_ar a j (L ++ M)
  | [], M, j, _, h => by rw [List.length_nil, Nat.add_zero] at h; exact h
  | k :: L, M, j, h, h' => ⟨h.1, om_ar_app L M (j + 1) h.2 (by rw [List.length_cons] at h'; rw [show j + 1 + L.length = j + (L.length + 1) by omega]; exact h')⟩
theorem om_ar_put {a : Nat → Int32} {L : List Int32} {w : Int32} (h : om_ar a 0 L) : om_ar (upd a L.length w) 0 (L ++ [w]) :=
  om_ar_app L [w] 0 (om_ar_up L 0 (by omega) h) (by rw [Nat.zero_add]; exact ⟨pk_us, trivial⟩)
theorem om_ar_eq {a b : Nat → Int32} : ∀ (L : List Int32) (j k : Nat), om_ar a j L → om_ar b j L → j ≤ k → k < j + L.length → a k = b k
  | [], j, k, _, _, h1, h2 => by rw [List.length_nil] at h2; omega
  | v :: L, j, k, h, h', h1, h2 => by
    rw [List.length_cons] at h2
    by_cases e : k = j
    · rw [e, h.1, h'.1]
    · exact om_ar_eq L (j + 1) k h.2 h'.2 (by omega) (by omega)
theorem els_len (s : Int32) : (bs_els s).length ≤ 24 := by
  have := List.length_filter_le (fun i => bt s i) (List.range 24)
  rw [List.length_range] at this
  exact this
section
variable {c : Nat} {r D nm : Nat → Nat} {va : Nat → Int32} {ln : Nat → Nat} {KK : Nat → Nat → Nat} {VV : Nat → Nat → Int32} {mo oo no : Nat → Option Nat} {f_root f_used f_counted f_sorted f_put : Int32} {a_names a_values a_parent a_first a_next a_place a_nodeAt a_end a_up a_children a_above a_named a_valueAt a_kinds a_vals a_types a_behind a_local a_length a_open a_table a_results a_known a_along a_stack a_match a_priority a_out a_on a_matched a_chosen a_waiting a_depths a_outputs : Nat → Int32}
theorem tx_apply77 (W : tr_TW c r D nm) (hc0 : 0 < c) (T : xx_t f_used f_root a_names a_values a_parent a_first a_next c r D nm va)
    (hcn : f_counted ≠ 0) (CT : xx_ct c r D nm va a_place a_nodeAt a_end a_up a_children a_above a_named a_valueAt)
    (SL : xx_SL ln KK VV a_length a_kinds a_vals a_types a_behind a_local)
    (hR : ∀ t, t < 8 → a_known t ≠ 0 → ∀ x, x < c → a_results (24 * t + x) = sm_R c D nm va ln KK VV t x)
    {t x : Nat} (ht : t < 6) (hx : x < c) (hN : a_on t = tm_mo (no t) ∧ ∀ m, no t = some m → m < 8) {post : Int32 → SX → Prop}
    (hp : ∀ (f_counted' : Int32) (a_place' a_nodeAt' a_end' a_up' a_children' a_above' a_named' a_valueAt' a_table' a_results' a_known' a_along' a_stack' : Nat → Int32), f_counted' ≠ 0 → xx_ct c r D nm va a_place' a_nodeAt' a_end' a_up' a_children' a_above' a_named' a_valueAt' → (∀ t, t < 8 → a_known' t ≠ 0 → ∀ x, x < c → a_results' (24 * t + x) = sm_R c D nm va ln KK VV t x) → post (tm_onv ln KK (sm_R c D nm va ln KK VV) (no t) x) (f_root, f_used, f_counted', f_sorted, f_put, a_names, a_values, a_parent, a_first, a_next, a_place', a_nodeAt', a_end', a_up', a_children', a_above', a_named', a_valueAt', a_kinds, a_vals, a_types, a_behind, a_local, a_length, a_open, a_table', a_results', a_known', a_along', a_stack', a_match, a_priority, a_out, a_on, a_matched, a_chosen, a_waiting, a_depths, a_outputs)) :
    wX_apply_77 post (nI t) (nI x) f_root f_used f_counted f_sorted f_put a_names a_values a_parent a_first a_next a_place a_nodeAt a_end a_up a_children a_above a_named a_valueAt a_kinds a_vals a_types a_behind a_local a_length a_open a_table a_results a_known a_along a_stack a_match a_priority a_out a_on a_matched a_chosen a_waiting a_depths a_outputs := by
  have hc := W.1
  have ct : (nI t).toNatClampNeg = t := nI_clamp (by omega)
  have h := hp f_counted a_place a_nodeAt a_end a_up a_children a_above a_named a_valueAt a_table a_results a_known a_along a_stack hcn CT hR
  refine ⟨pk_in t 6 ht, ?_⟩
  cases e : no t with
  | none =>
    rw [e] at h
    exact nm_r (e' := -1) (by rw [ct, hN.1, e]; rfl) (br_t (by decide) h)
  | some s =>
    have hs := hN.2 s e
    have cs : (nI s).toNatClampNeg = s := nI_clamp (by omega)
    obtain ⟨l1, l2⟩ := SL s hs
    have el : a_length (nI s).toNatClampNeg = nI (ln s) := by rw [cs]; exact l1
    rw [e] at h
    have h : post (if tm_set ln KK s = true then sm_R c D nm va ln KK VV s x else 0) (f_root, f_used, f_counted, f_sorted, f_put, a_names, a_values, a_parent, a_first, a_next, a_place, a_nodeAt, a_end, a_up, a_children, a_above, a_named, a_valueAt, a_kinds, a_vals, a_types, a_behind, a_local, a_length, a_open, a_table, a_results, a_known, a_along, a_stack, a_match, a_priority, a_out, a_on, a_matched, a_chosen, a_waiting, a_depths, a_outputs) := h
    refine nm_r (e' := nI s) (by rw [ct, hN.1, e]; rfl) (br_f (nI_pos (by omega)) ⟨pk_in s 9 (by omega), ?_⟩)
    by_cases hl : ln s = 0
    · have hset : tm_set ln KK s = false := decide_eq_false (by omega)
      rw [if_neg (by rw [hset]; decide)] at h
      exact br_t (by rw [el, hl]; rfl) h
    · obtain ⟨E, S⟩ := l2 (by omega)
      have hn := E.2.1
      have e40 := x40 s
      have et : a_types ((40 : Int32) * nI s).toNatClampNeg = nI (ex_ty (KK s 0)) := by rw [cl_n e40 (by omega)]; exact (S 0 (by omega)).2.2.1
      have hty := ex_ty_le (KK s 0)
      refine br_f (by rw [el]; exact nI_ne0 (by omega) (by omega)) ⟨pk_in (40 * s) 360 (by omega) e40, pk_eq (ex_ty (KK s 0)) 0 (fun t0 => ?_) (fun t0 => ?_) et⟩
      · have hset : tm_set ln KK s = true := decide_eq_true ⟨by omega, ex_ty_0.mp t0⟩
        refine tx_learn W hc0 T (fun _ => CT) hs E S l1 (R := sm_R c D nm va ln KK VV) (fun x hx => rfl) hR (fun f_counted' a_place' a_nodeAt' a_end' a_up' a_children' a_above' a_named' a_valueAt' a_table' a_results' a_known' a_along' a_stack' d1 d2 d3 d4 => ⟨pk_in (24 * s + x) 192 (by omega) (x24 s x), ?_⟩)
        have h' := hp f_counted' a_place' a_nodeAt' a_end' a_up' a_children' a_above' a_named' a_valueAt' a_table' a_results' a_known' a_along' a_stack' d1 d2 d4
        rw [e] at h'
        have h' : post (if tm_set ln KK s = true then sm_R c D nm va ln KK VV s x else 0) (f_root, f_used, f_counted', f_sorted, f_put, a_names, a_values, a_parent, a_first, a_next, a_place', a_nodeAt', a_end', a_up', a_children', a_above', a_named', a_valueAt', a_kinds, a_vals, a_types, a_behind, a_local, a_length, a_open, a_table', a_results', a_known', a_along', a_stack', a_match, a_priority, a_out, a_on, a_matched, a_chosen, a_waiting, a_depths, a_outputs) := h'
        rw [if_pos hset] at h'
        have er : a_results' ((24 : Int32) * nI s + nI x).toNatClampNeg = sm_R c D nm va ln KK VV s x := by rw [cl_n (x24 s x) (by omega)]; exact d4 s hs d3 x hx
        rw [← er] at h'
        exact h'
      · have hset : tm_set ln KK s = false := decide_eq_false (fun w => t0 (ex_ty_0.mpr w.2))
        rw [if_neg (by rw [hset]; decide)] at h
        exact h
theorem tx_apply (W : tr_TW c r D nm) (hc0 : 0 < c) (T : xx_t f_used f_root a_names a_values a_parent a_first a_next c r D nm va)
    (hcn : f_counted ≠ 0) (CT : xx_ct c r D nm va a_place a_nodeAt a_end a_up a_children a_above a_named a_valueAt)
    (SL : xx_SL ln KK VV a_length a_kinds a_vals a_types a_behind a_local)
    (hR : ∀ t, t < 8 → a_known t ≠ 0 → ∀ x, x < c → a_results (24 * t + x) = sm_R c D nm va ln KK VV t x)
    {t x : Nat} (ht : t < 6) (hx : x < c) (hO : a_out t = tm_mo (oo t) ∧ ∀ m, oo t = some m → m < 8) (hN : a_on t = tm_mo (no t) ∧ ∀ m, no t = some m → m < 8)
    {o : List Int32} (ho : f_put = nI o.length) (hol : o.length < 100) (hoa : om_ar a_outputs 0 o) {post : Int32 → SX → Prop}
    (hp : ∀ (f_counted' : Int32) (a_place' a_nodeAt' a_end' a_up' a_children' a_above' a_named' a_valueAt' a_table' a_results' a_known' a_along' a_stack' : Nat → Int32) a_outputs', f_counted' ≠ 0 → xx_ct c r D nm va a_place' a_nodeAt' a_end' a_up' a_children' a_above' a_named' a_valueAt' → (∀ t, t < 8 → a_known' t ≠ 0 → ∀ x, x < c → a_results' (24 * t + x) = sm_R c D nm va ln KK VV t x) → om_ar a_outputs' 0 (o ++ tm_ouv va ln KK (sm_R c D nm va ln KK VV) (oo t) x) →
      post (tm_onv ln KK (sm_R c D nm va ln KK VV) (no t) x) (f_root, f_used, f_counted', f_sorted, nI (o ++ tm_ouv va ln KK (sm_R c D nm va ln KK VV) (oo t) x).length, a_names, a_values, a_parent, a_first, a_next, a_place', a_nodeAt', a_end', a_up', a_children', a_above', a_named', a_valueAt', a_kinds, a_vals, a_types, a_behind, a_local, a_length, a_open, a_table', a_results', a_known', a_along', a_stack', a_match, a_priority, a_out, a_on, a_matched, a_chosen, a_waiting, a_depths, a_outputs')) :
    wpX_apply post (f_root, f_used, f_counted, f_sorted, f_put, a_names, a_values, a_parent, a_first, a_next, a_place, a_nodeAt, a_end, a_up, a_children, a_above, a_named, a_valueAt, a_kinds, a_vals, a_types, a_behind, a_local, a_length, a_open, a_table, a_results, a_known, a_along, a_stack, a_match, a_priority, a_out, a_on, a_matched, a_chosen, a_waiting, a_depths, a_outputs) (nI t) (nI x) := by
  have hc := W.1
  have ct : (nI t).toNatClampNeg = t := nI_clamp (by omega)
  -- nothing is put out
  have none_out : tm_ouv va ln KK (sm_R c D nm va ln KK VV) (oo t) x = [] → wX_apply_77 post (nI t) (nI x) f_root f_used f_counted f_sorted f_put a_names a_values a_parent a_first a_next a_place a_nodeAt a_end a_up a_children a_above a_named a_valueAt a_kinds a_vals a_types a_behind a_local a_length a_open a_table a_results a_known a_along a_stack a_match a_priority a_out a_on a_matched a_chosen a_waiting a_depths a_outputs := by
    intro e
    refine tx_apply77 W hc0 T hcn CT SL hR ht hx hN (fun f_counted' a_place' a_nodeAt' a_end' a_up' a_children' a_above' a_named' a_valueAt' a_table' a_results' a_known' a_along' a_stack' d1 d2 d3 => ?_)
    have h := hp f_counted' a_place' a_nodeAt' a_end' a_up' a_children' a_above' a_named' a_valueAt' a_table' a_results' a_known' a_along' a_stack' a_outputs d1 d2 d3 (by rw [e, List.append_nil]; exact hoa)
    rw [e, List.append_nil, ← ho] at h
    exact h
  refine ⟨pk_in t 6 ht, ?_⟩
  cases e : oo t with
  | none =>
    rw [e] at none_out
    exact nm_r (e' := -1) (by rw [ct, hO.1, e]; rfl) (br_t (by decide) (none_out rfl))
  | some s =>
    have hs := hO.2 s e
    have cs : (nI s).toNatClampNeg = s := nI_clamp (by omega)
    obtain ⟨l1, l2⟩ := SL s hs
    have el : a_length (nI s).toNatClampNeg = nI (ln s) := by rw [cs]; exact l1
    rw [e] at none_out
    refine nm_r (e' := nI s) (by rw [ct, hO.1, e]; rfl) (br_f (nI_pos (by omega)) ⟨pk_in s 9 (by omega), ?_⟩)
    by_cases hl : ln s = 0
    · refine br_t (by rw [el, hl]; decide) (none_out ?_)
      show (if 0 < ln s then _ else _) = _
      rw [if_neg (by omega)]
    · obtain ⟨E, S⟩ := l2 (by omega)
      have hn := E.2.1
      have e40 := x40 s
      have et : a_types ((40 : Int32) * nI s).toNatClampNeg = nI (ex_ty (KK s 0)) := by rw [cl_n e40 (by omega)]; exact (S 0 (by omega)).2.2.1
      have hty := ex_ty_le (KK s 0)
      have eou : tm_ouv va ln KK (sm_R c D nm va ln KK VV) (oo t) x = [sm_pl va (ex_ty (KK s 0)) (sm_R c D nm va ln KK VV s x)] := by
        rw [e]
        show (if 0 < ln s then _ else _) = _
        rw [if_pos (by omega)]
      refine br_f (by rw [el]; exact nI_nle (by omega) (by omega)) ?_
      refine tx_learn W hc0 T (fun _ => CT) hs E S l1 (R := sm_R c D nm va ln KK VV) (fun x hx => rfl) hR (fun f_counted' a_place' a_nodeAt' a_end' a_up' a_children' a_above' a_named' a_valueAt' a_table' a_results' a_known' a_along' a_stack' d1 d2 d3 d4 => ⟨pk_in (24 * s + x) 192 (by omega) (x24 s x), ?_⟩)
      have er : a_results' ((24 : Int32) * nI s + nI x).toNatClampNeg = sm_R c D nm va ln KK VV s x := by rw [cl_n (x24 s x) (by omega)]; exact d4 s hs d3 x hx
      have eput : f_put + 1 = nI (o.length + 1) := by rw [ho]; exact nI_1 _
      refine nm_r er (nm_r eput ⟨pk_in (40 * s) 360 (by omega) e40, ?_⟩)
      have k76 : ∀ v : Int32, v = sm_pl va (ex_ty (KK s 0)) (sm_R c D nm va ln KK VV s x) → wX_apply_76 post (nI t) (nI x) v f_put f_root f_used f_counted' f_sorted (nI (o.length + 1)) a_names a_values a_parent a_first a_next a_place' a_nodeAt' a_end' a_up' a_children' a_above' a_named' a_valueAt' a_kinds a_vals a_types a_behind a_local a_length a_open a_table' a_results' a_known' a_along' a_stack' a_match a_priority a_out a_on a_matched a_chosen a_waiting a_depths a_outputs := by
        intro v hv
        subst hv
        refine ⟨pk_in o.length 100 hol ho, nm_r (up_n ho (by omega) rfl) ?_⟩
        refine tx_apply77 W hc0 T d1 d2 SL d4 ht hx hN (fun f_counted1 a_place1 a_nodeAt1 a_end1 a_up1 a_children1 a_above1 a_named1 a_valueAt1 a_table1 a_results1 a_known1 a_along1 a_stack1 g1 g2 g3 => ?_)
        have h := hp f_counted1 a_place1 a_nodeAt1 a_end1 a_up1 a_children1 a_above1 a_named1 a_valueAt1 a_table1 a_results1 a_known1 a_along1 a_stack1 (upd a_outputs o.length (sm_pl va (ex_ty (KK s 0)) (sm_R c D nm va ln KK VV s x))) g1 g2 g3 (by rw [eou]; exact om_ar_put hoa)
        rw [eou, show (o ++ [sm_pl va (ex_ty (KK s 0)) (sm_R c D nm va ln KK VV s x)]).length = o.length + 1 by rw [List.length_append]; rfl] at h
        exact h
      have hv : ∀ i, i < c → a_valueAt' i = va i := fun i hi => (d2.1 i hi).2.2.2.2.2.2
      refine pk_eq (ex_ty (KK s 0)) 0 (fun t0 => tx_valueOf (u := (f_root, f_used, f_counted', f_sorted, nI (o.length + 1), a_names, a_values, a_parent, a_first, a_next, a_place', a_nodeAt', a_end', a_up', a_children', a_above', a_named', a_valueAt', a_kinds, a_vals, a_types, a_behind, a_local, a_length, a_open, a_table', a_results', a_known', a_along', a_stack', a_match, a_priority, a_out, a_on, a_matched, a_chosen, a_waiting, a_depths, a_outputs)) (c := c) (va := va) hv hc (sm_R_ok hc hc0 E (ex_ty_0.mp t0) hx) (k76 _ ?_)) (fun t0 => k76 _ ?_) et
      · unfold sm_pl; rw [if_pos t0]
      · unfold sm_pl; rw [if_neg t0]
theorem tx_push (hc : c ≤ 24) {h d : Nat} (hd : d ≤ 11) {post : Int32 → SX → Prop} {J : Int32 → Int32 → Int32 → Int32 → Int32 → Int32 → Int32 → (Nat → Int32) → (Nat → Int32) → (Nat → Int32) → (Nat → Int32) → (Nat → Int32) → (Nat → Int32) → (Nat → Int32) → (Nat → Int32) → (Nat → Int32) → (Nat → Int32) → (Nat → Int32) → (Nat → Int32) → (Nat → Int32) → (Nat → Int32) → (Nat → Int32) → (Nat → Int32) → (Nat → Int32) → (Nat → Int32) → (Nat → Int32) → (Nat → Int32) → (Nat → Int32) → (Nat → Int32) → (Nat → Int32) → (Nat → Int32) → (Nat → Int32) → (Nat → Int32) → (Nat → Int32) → (Nat → Int32) → (Nat → Int32) → (Nat → Int32) → (Nat → Int32) → (Nat → Int32) → (Nat → Int32) → (Nat → Int32) → Prop}
    {M : List (Nat × Nat)} (hJ : ∀ wa dp, tm_sk id wa dp M → J (nI h) (nI M.length) f_root f_used f_counted f_sorted f_put a_names a_values a_parent a_first a_next a_place a_nodeAt a_end a_up a_children a_above a_named a_valueAt a_kinds a_vals a_types a_behind a_local a_length a_open a_table a_results a_known a_along a_stack a_match a_priority a_out a_on a_matched a_chosen wa dp a_outputs) :
    ∀ (L : List Nat) (S : List (Nat × Nat)) (wa dp : Nat → Int32), L.Pairwise (· > ·) → (∀ k, k ∈ L → k < c) → S.length + L.length ≤ 2500 → tm_sk id wa dp S → M = L.reverse.map (fun y => (y, d + 1)) ++ S →
      wX_transform_128 post J (nI h) (nI d) f_root f_used f_counted f_sorted f_put (L.length + 1) (nI S.length) (bs_bo L) a_names a_values a_parent a_first a_next a_place a_nodeAt a_end a_up a_children a_above a_named a_valueAt a_kinds a_vals a_types a_behind a_local a_length a_open a_table a_results a_known a_along a_stack a_match a_priority a_out a_on a_matched a_chosen wa dp a_outputs := by
  intro L
  induction L with
  | nil =>
    intro S wa dp _ _ _ hs hM
    have e : M = S := hM
    rw [← e] at hs ⊢
    exact br_t rfl (hJ wa dp hs)
  | cons k L ih =>
    intro S wa dp ha hb hl hs hM
    rw [List.length_cons] at hl
    have hk := hb k (List.mem_cons_self ..)
    obtain ⟨a1, a2, a3⟩ := bs_dsc ha (fun j hj => by have := hb j hj; omega)
    have ed : nI d + 1 = nI (d + 1) := nI_1 d
    refine br_f a1 (a3 _ (nm_r a2 ⟨pk_in S.length 2500 (by omega), nm_r (up_cl (by omega) (bs_nb (by omega))) ⟨pk_in S.length 2500 (by omega), nm_r (up_cl (by omega) (y := nI (d + 1)) (by rw [ed]; exact bs_nb (by omega))) (nm_r (nI_1 _) ?_)⟩⟩))
    have := ih ((k, d + 1) :: S) (upd wa S.length (nI k)) (upd dp S.length (nI (d + 1))) (List.pairwise_cons.mp ha).2 (fun j hj => hb j (List.mem_cons_of_mem _ hj)) (by rw [List.length_cons]; omega) (tm_sk_push (rr := id) (x := k) hs) (by rw [hM, List.reverse_cons, List.map_append, List.append_assoc]; rfl)
    exact this
theorem tx_trans_loop (W : tr_TW c r D nm) (hc0 : 0 < c) (T : xx_t f_used f_root a_names a_values a_parent a_first a_next c r D nm va)
    (SL : xx_SL ln KK VV a_length a_kinds a_vals a_types a_behind a_local)
    (hO : ∀ t, t < 6 → a_out t = tm_mo (oo t) ∧ ∀ m, oo t = some m → m < 8) (hN : ∀ t, t < 6 → a_on t = tm_mo (no t) ∧ ∀ m, no t = some m → m < 8)
    (hS : xx_so c D ln KK (sm_R c D nm va ln KK VV) mo a_priority a_matched a_chosen) {RES : Option (List Int32)} {post : Int32 → SX → Prop}
    (hp0 : ∀ (f_counted' f_put' : Int32) (a_place' a_nodeAt' a_end' a_up' a_children' a_above' a_named' a_valueAt' a_table' a_results' a_known' a_along' a_stack' a_waiting' a_depths' a_outputs' : Nat → Int32), f_counted' ≠ 0 → xx_ct c r D nm va a_place' a_nodeAt' a_end' a_up' a_children' a_above' a_named' a_valueAt' → (∀ t, t < 8 → a_known' t ≠ 0 → ∀ x, x < c → a_results' (24 * t + x) = sm_R c D nm va ln KK VV t x) → RES = none → f_put' = 0 → post (-3) (f_root, f_used, f_counted', f_sorted, f_put', a_names, a_values, a_parent, a_first, a_next, a_place', a_nodeAt', a_end', a_up', a_children', a_above', a_named', a_valueAt', a_kinds, a_vals, a_types, a_behind, a_local, a_length, a_open, a_table', a_results', a_known', a_along', a_stack', a_match, a_priority, a_out, a_on, a_matched, a_chosen, a_waiting', a_depths', a_outputs'))
    (hp1 : ∀ (f_counted' f_put' : Int32) (a_place' a_nodeAt' a_end' a_up' a_children' a_above' a_named' a_valueAt' a_table' a_results' a_known' a_along' a_stack' a_waiting' a_depths' a_outputs' : Nat → Int32) o, f_counted' ≠ 0 → xx_ct c r D nm va a_place' a_nodeAt' a_end' a_up' a_children' a_above' a_named' a_valueAt' → (∀ t, t < 8 → a_known' t ≠ 0 → ∀ x, x < c → a_results' (24 * t + x) = sm_R c D nm va ln KK VV t x) → RES = some o → o.length ≤ 100 → om_ar a_outputs' 0 o → f_put' = nI o.length → post (nI o.length) (f_root, f_used, f_counted', f_sorted, f_put', a_names, a_values, a_parent, a_first, a_next, a_place', a_nodeAt', a_end', a_up', a_children', a_above', a_named', a_valueAt', a_kinds, a_vals, a_types, a_behind, a_local, a_length, a_open, a_table', a_results', a_known', a_along', a_stack', a_match, a_priority, a_out, a_on, a_matched, a_chosen, a_waiting', a_depths', a_outputs')) :
    ∀ f S h o f_counted' f_put' a_place' a_nodeAt' a_end' a_up' a_children' a_above' a_named' a_valueAt' a_table' a_results' a_known' a_along' a_stack' a_waiting' a_depths' a_outputs', 102 ≤ f + h → h ≤ 100 → S.length ≤ 1 + 24 * h → (∀ p, p ∈ S → p.1 < c ∧ p.2 ≤ 12) → o.length ≤ h → tm_sk id a_waiting' a_depths' S → om_ar a_outputs' 0 o → f_put' = nI o.length → f_counted' ≠ 0 → xx_ct c r D nm va a_place' a_nodeAt' a_end' a_up' a_children' a_above' a_named' a_valueAt' → (∀ t, t < 8 → a_known' t ≠ 0 → ∀ x, x < c → a_results' (24 * t + x) = sm_R c D nm va ln KK VV t x) →
      RES = tm_tf (fun x => tm_ks c D ln KK (sm_R c D nm va ln KK VV) no (tm_best (fun t => bt (tm_M c D ln KK (sm_R c D nm va ln KK VV) (mo t)) x) a_priority 6) x) (fun x => tm_os va ln KK (sm_R c D nm va ln KK VV) oo (tm_best (fun t => bt (tm_M c D ln KK (sm_R c D nm va ln KK VV) (mo t)) x) a_priority 6) x) f S h o →
      wX_transform_42 post f (nI h) (nI S.length) f_root f_used f_counted' f_sorted f_put' a_names a_values a_parent a_first a_next a_place' a_nodeAt' a_end' a_up' a_children' a_above' a_named' a_valueAt' a_kinds a_vals a_types a_behind a_local a_length a_open a_table' a_results' a_known' a_along' a_stack' a_match a_priority a_out a_on a_matched a_chosen a_waiting' a_depths' a_outputs' := by
  have hc := W.1
  intro f
  induction f with
  | zero => intro S h o f_counted' f_put' a_place' a_nodeAt' a_end' a_up' a_children' a_above' a_named' a_valueAt' a_table' a_results' a_known' a_along' a_stack' a_waiting' a_depths' a_outputs' hf hh; omega
  | succ f ih =>
    intro S h o f_counted' f_put' a_place' a_nodeAt' a_end' a_up' a_children' a_above' a_named' a_valueAt' a_table' a_results' a_known' a_along' a_stack' a_waiting' a_depths' a_outputs' hf hh hSl hSb hol hsk hoa hput c1 c2 c3 hres
    cases S with
    | nil =>
      have hres : RES = some o := hres
      refine br_t (show nI 0 ≤ 0 by decide) ?_
      have := hp1 f_counted' f_put' a_place' a_nodeAt' a_end' a_up' a_children' a_above' a_named' a_valueAt' a_table' a_results' a_known' a_along' a_stack' a_waiting' a_depths' a_outputs' o c1 c2 c3 hres (by omega) hoa hput
      rw [← hput] at this
      exact this
    | cons p S =>
      obtain ⟨x, d⟩ := p
      rw [List.length_cons] at hSl
      obtain ⟨hx, hd⟩ := hSb (x, d) (List.mem_cons_self ..)
      have hx : x < c := hx
      have hd : d ≤ 12 := hd
      obtain ⟨k1, k2, k3⟩ := hsk
      have k1 : a_waiting' S.length = nI x := k1
      have k2 : a_depths' S.length = nI d := k2
      rw [tm_tf_s] at hres
      have cS : (nI S.length).toNatClampNeg = S.length := nI_clamp (by omega)
      rw [List.length_cons]
      refine pk_le (S.length + 1) 0 (fun z => by omega) (fun _ => nm_r (pk_m1 S.length) ⟨pk_in S.length 2500 (by omega), nm_r (e' := nI x) (by rw [cS]; exact k1) ⟨pk_in S.length 2500 (by omega), nm_r (e' := nI d) (by rw [cS]; exact k2) (nm_r (nI_1 h) ?_)⟩⟩)
      have stall : 100 < h + 1 ∨ 11 < d → post (-3) (f_root, f_used, f_counted', f_sorted, 0, a_names, a_values, a_parent, a_first, a_next, a_place', a_nodeAt', a_end', a_up', a_children', a_above', a_named', a_valueAt', a_kinds, a_vals, a_types, a_behind, a_local, a_length, a_open, a_table', a_results', a_known', a_along', a_stack', a_match, a_priority, a_out, a_on, a_matched, a_chosen, a_waiting', a_depths', a_outputs') := by
        intro z
        rw [if_pos z] at hres
        exact hp0 f_counted' 0 a_place' a_nodeAt' a_end' a_up' a_children' a_above' a_named' a_valueAt' a_table' a_results' a_known' a_along' a_stack' a_waiting' a_depths' a_outputs' c1 c2 c3 hres rfl
      refine pk_lt 100 (h + 1) (fun z => stall (Or.inl z)) (fun z => pk_le d 11 (fun y => ⟨pk_in x 24 (by omega), ?_⟩) (fun y => stall (Or.inr y)))
      rw [if_neg (by omega)] at hres
      have cx : (nI x).toNatClampNeg = x := nI_clamp (by omega)
      have ech : a_chosen (nI x).toNatClampNeg = tr_nd id (tm_best (fun t => bt (tm_M c D ln KK (sm_R c D nm va ln KK VV) (mo t)) x) a_priority 6) := by rw [cx]; exact hS.2 x hx
      -- pushing
      have push : ∀ (s : Int32) (f_counted1 f_put1 : Int32) (a_place1 a_nodeAt1 a_end1 a_up1 a_children1 a_above1 a_named1 a_valueAt1 a_table1 a_results1 a_known1 a_along1 a_stack1 a_waiting1 a_depths1 a_outputs1 : Nat → Int32) (o1 : List Int32), bs_ok c s → o1.length ≤ h + 1 → om_ar a_outputs1 0 o1 → f_put1 = nI o1.length → tm_sk id a_waiting1 a_depths1 S → f_counted1 ≠ 0 → xx_ct c r D nm va a_place1 a_nodeAt1 a_end1 a_up1 a_children1 a_above1 a_named1 a_valueAt1 → (∀ t, t < 8 → a_known1 t ≠ 0 → ∀ x, x < c → a_results1 (24 * t + x) = sm_R c D nm va ln KK VV t x) →
          RES = tm_tf (fun x => tm_ks c D ln KK (sm_R c D nm va ln KK VV) no (tm_best (fun t => bt (tm_M c D ln KK (sm_R c D nm va ln KK VV) (mo t)) x) a_priority 6) x) (fun x => tm_os va ln KK (sm_R c D nm va ln KK VV) oo (tm_best (fun t => bt (tm_M c D ln KK (sm_R c D nm va ln KK VV) (mo t)) x) a_priority 6) x) f ((bs_els s).map (fun y => (y, d + 1)) ++ S) (h + 1) o1 →
          ∃ n128, wX_transform_128 post (wX_transform_42 post f) (nI (h + 1)) (nI d) f_root f_used f_counted1 f_sorted f_put1 n128 (nI S.length) s a_names a_values a_parent a_first a_next a_place1 a_nodeAt1 a_end1 a_up1 a_children1 a_above1 a_named1 a_valueAt1 a_kinds a_vals a_types a_behind a_local a_length a_open a_table1 a_results1 a_known1 a_along1 a_stack1 a_match a_priority a_out a_on a_matched a_chosen a_waiting1 a_depths1 a_outputs1 := by
        intro s f_counted1 f_put1 a_place1 a_nodeAt1 a_end1 a_up1 a_children1 a_above1 a_named1 a_valueAt1 a_table1 a_results1 a_known1 a_along1 a_stack1 a_waiting1 a_depths1 a_outputs1 o1 hok ho1 hoa1 hput1 hsk1 g1 g2 g3 hr1
        have hl := els_len s
        have hh := tx_push (f_root := f_root) (f_used := f_used) (f_counted := f_counted1) (f_sorted := f_sorted) (f_put := f_put1) (a_names := a_names) (a_values := a_values) (a_parent := a_parent) (a_first := a_first) (a_next := a_next) (a_place := a_place1) (a_nodeAt := a_nodeAt1) (a_end := a_end1) (a_up := a_up1) (a_children := a_children1) (a_above := a_above1) (a_named := a_named1) (a_valueAt := a_valueAt1) (a_kinds := a_kinds) (a_vals := a_vals) (a_types := a_types) (a_behind := a_behind) (a_local := a_local) (a_length := a_length) (a_open := a_open) (a_table := a_table1) (a_results := a_results1) (a_known := a_known1) (a_along := a_along1) (a_stack := a_stack1) (a_match := a_match) (a_priority := a_priority) (a_out := a_out) (a_on := a_on) (a_matched := a_matched) (a_chosen := a_chosen) (a_outputs := a_outputs1) (post := post) hc (h := h + 1) (d := d) y (J := wX_transform_42 post f) (M := (bs_els s).map (fun y => (y, d + 1)) ++ S) (fun wa dp hm => ih ((bs_els s).map (fun y => (y, d + 1)) ++ S) (h + 1) o1 f_counted1 f_put1 a_place1 a_nodeAt1 a_end1 a_up1 a_children1 a_above1 a_named1 a_valueAt1 a_table1 a_results1 a_known1 a_along1 a_stack1 wa dp a_outputs1 (by omega) (by omega) (by rw [List.length_append, List.length_map]; omega) (fun q hq => ?_) ho1 hm hoa1 hput1 g1 g2 g3 hr1) (bs_els s).reverse S a_waiting1 a_depths1 (List.pairwise_reverse.mpr (bs_els_asc s)) (fun k hk => bs_ok_els hok (List.mem_reverse.mp hk)) (by rw [List.length_reverse]; omega) hsk1 (by rw [List.reverse_reverse])
        · have e : bs_bo (bs_els s).reverse = s := bs_bo_ord (tu := true) hok hc
          rw [e] at hh
          exact ⟨_, hh⟩
        · rcases List.mem_append.mp hq with w | w
          · obtain ⟨q0, w1, w2⟩ := List.mem_map.mp w
            rw [← w2]
            exact ⟨bs_ok_els hok w1, by show d + 1 ≤ 12; omega⟩
          · exact hSb q (List.mem_cons_of_mem _ w)
      cases e : tm_best (fun t => bt (tm_M c D ln KK (sm_R c D nm va ln KK VV) (mo t)) x) a_priority 6 with
      | none =>
        rw [e] at ech
        have e1 : a_children' (nI x).toNatClampNeg = bs_fs c (fun k => decide (tr_pr D k = some x)) := by rw [cx]; exact (c2.1 x hx).2.2.2.2.1
        refine br_f (by rw [ech]; decide) ⟨pk_in x 24 (by omega), nm_r e1 (push _ f_counted' f_put' a_place' a_nodeAt' a_end' a_up' a_children' a_above' a_named' a_valueAt' a_table' a_results' a_known' a_along' a_stack' a_waiting' a_depths' a_outputs' o (bs_fs_ok (by omega) _) (by omega) hoa hput k3 c1 c2 c3 ?_)⟩
        rw [hres]
        simp only [e]
        show tm_tf _ _ f _ (h + 1) (o ++ []) = _
        rw [List.append_nil]
        rfl
      | some t =>
        have ht := tm_best_lt 6 e
        rw [e] at ech
        have ech : a_chosen (nI x).toNatClampNeg = nI t := ech
        refine br_t (by rw [ech]; exact nI_pos' (by omega)) ⟨pk_in x 24 (by omega), ek_v (P := fun w => wpX_apply _ _ w _) ech ?_⟩
        refine tx_apply W hc0 T c1 c2 SL c3 ht hx (hO t ht) (hN t ht) hput (by omega) hoa (fun f_counted1 a_place1 a_nodeAt1 a_end1 a_up1 a_children1 a_above1 a_named1 a_valueAt1 a_table1 a_results1 a_known1 a_along1 a_stack1 a_outputs1 g1 g2 g3 hoa1 => ?_)
        refine push _ f_counted1 _ a_place1 a_nodeAt1 a_end1 a_up1 a_children1 a_above1 a_named1 a_valueAt1 a_table1 a_results1 a_known1 a_along1 a_stack1 a_waiting' a_depths' a_outputs1 (o ++ tm_ouv va ln KK (sm_R c D nm va ln KK VV) (oo t) x) ?_ ?_ hoa1 rfl k3 g1 g2 g3 ?_
        · cases e2 : no t with
          | none => exact bs_0_ok c
          | some s =>
            show bs_ok c (if tm_set ln KK s = true then sm_R c D nm va ln KK VV s x else 0)
            by_cases hset : tm_set ln KK s = true
            · rw [if_pos hset]
              have hs' := of_decide_eq_true hset
              exact sm_R_ok hc hc0 ((SL s ((hN t ht).2 s e2)).2 hs'.1).1 hs'.2 hx
            · rw [if_neg hset]; exact bs_0_ok c
        · rw [List.length_append]
          have : (tm_ouv va ln KK (sm_R c D nm va ln KK VV) (oo t) x).length ≤ 1 := by
            cases oo t with
            | none => show 0 ≤ 1; omega
            | some s =>
              show (if 0 < ln s then [_] else []).length ≤ 1
              by_cases z : 0 < ln s
              · rw [if_pos z]; exact Nat.le_refl _
              · rw [if_neg z]; exact Nat.zero_le _
          omega
        · rw [hres]
          simp only [e]
          rfl
theorem tx_transform (W : tr_TW c r D nm) (T : xx_t f_used f_root a_names a_values a_parent a_first a_next c r D nm va)
    (hC : f_counted ≠ 0 → xx_ct c r D nm va a_place a_nodeAt a_end a_up a_children a_above a_named a_valueAt)
    (SL : xx_SL ln KK VV a_length a_kinds a_vals a_types a_behind a_local)
    (hR : ∀ t, t < 8 → a_known t ≠ 0 → ∀ x, x < c → a_results (24 * t + x) = sm_R c D nm va ln KK VV t x)
    (hM : ∀ t, t < 6 → a_match t = tm_mo (mo t) ∧ ∀ m, mo t = some m → m < 8) (hO : ∀ t, t < 6 → a_out t = tm_mo (oo t) ∧ ∀ m, oo t = some m → m < 8) (hN : ∀ t, t < 6 → a_on t = tm_mo (no t) ∧ ∀ m, no t = some m → m < 8)
    (hS : f_sorted ≠ 0 → xx_so c D ln KK (sm_R c D nm va ln KK VV) mo a_priority a_matched a_chosen) {x : Nat} (hx : x < c) {RES : Option (List Int32)}
    (hres : RES = tm_tf (fun x => tm_ks c D ln KK (sm_R c D nm va ln KK VV) no (tm_best (fun t => bt (tm_M c D ln KK (sm_R c D nm va ln KK VV) (mo t)) x) a_priority 6) x) (fun x => tm_os va ln KK (sm_R c D nm va ln KK VV) oo (tm_best (fun t => bt (tm_M c D ln KK (sm_R c D nm va ln KK VV) (mo t)) x) a_priority 6) x) 102 [(x, 0)] 0 []) {post : Int32 → SX → Prop}
    (hp : ∀ (f_counted' f_sorted' f_put' : Int32) (a_place' a_nodeAt' a_end' a_up' a_children' a_above' a_named' a_valueAt' a_table' a_results' a_known' a_along' a_stack' a_matched' a_chosen' a_waiting' a_depths' a_outputs' : Nat → Int32) w o, f_counted' ≠ 0 → xx_ct c r D nm va a_place' a_nodeAt' a_end' a_up' a_children' a_above' a_named' a_valueAt' → (∀ t, t < 8 → a_known' t ≠ 0 → ∀ x, x < c → a_results' (24 * t + x) = sm_R c D nm va ln KK VV t x) → f_sorted' ≠ 0 → xx_so c D ln KK (sm_R c D nm va ln KK VV) mo a_priority a_matched' a_chosen' →
      (RES = none ∧ w = -3 ∧ o = [] ∨ RES = some o ∧ w = nI o.length) → o.length ≤ 100 → om_ar a_outputs' 0 o → f_put' = nI o.length → post w (f_root, f_used, f_counted', f_sorted', f_put', a_names, a_values, a_parent, a_first, a_next, a_place', a_nodeAt', a_end', a_up', a_children', a_above', a_named', a_valueAt', a_kinds, a_vals, a_types, a_behind, a_local, a_length, a_open, a_table', a_results', a_known', a_along', a_stack', a_match, a_priority, a_out, a_on, a_matched', a_chosen', a_waiting', a_depths', a_outputs')) :
    wpX_transform post (f_root, f_used, f_counted, f_sorted, f_put, a_names, a_values, a_parent, a_first, a_next, a_place, a_nodeAt, a_end, a_up, a_children, a_above, a_named, a_valueAt, a_kinds, a_vals, a_types, a_behind, a_local, a_length, a_open, a_table, a_results, a_known, a_along, a_stack, a_match, a_priority, a_out, a_on, a_matched, a_chosen, a_waiting, a_depths, a_outputs) (nI (r x)) := by
  have hc := W.1
  have hrx := W.2.1 x hx
  unfold wpX_transform
  refine tx_isNode1 (u := (f_root, f_used, f_counted, f_sorted, f_put, a_names, a_values, a_parent, a_first, a_next, a_place, a_nodeAt, a_end, a_up, a_children, a_above, a_named, a_valueAt, a_kinds, a_vals, a_types, a_behind, a_local, a_length, a_open, a_table, a_results, a_known, a_along, a_stack, a_match, a_priority, a_out, a_on, a_matched, a_chosen, a_waiting, a_depths, a_outputs)) W T hx (br_f (by decide) (tx_sort W (by omega) T hC SL hR hM hS (fun f_counted' f_sorted' a_place' a_nodeAt' a_end' a_up' a_children' a_above' a_named' a_valueAt' a_table' a_results' a_known' a_along' a_stack' a_matched' a_chosen' c1 c2 c3 s1 s2 => ?_)))
  have epl : vp_nar .byte (a_place' (nI (r x)).toNatClampNeg) = nI x := by rw [nI_clamp (by omega), (c2.1 x hx).1]; exact bs_nar_byte (by omega)
  have ez : vp_nar .byte 0 = nI 0 := bs_nar_byte (n := 0) (by omega)
  refine ⟨pk_in (r x) 24 hrx, nm_r (congrArg (upd _ 0) epl) (nm_r (congrArg (upd _ 0) ez) ⟨102, ?_⟩)⟩
  exact tx_trans_loop W (by omega) T SL hO hN s2 (RES := RES)
    (fun f_counted1 f_put1 a_place1 a_nodeAt1 a_end1 a_up1 a_children1 a_above1 a_named1 a_valueAt1 a_table1 a_results1 a_known1 a_along1 a_stack1 a_waiting1 a_depths1 a_outputs1 g1 g2 g3 hn hz => hp f_counted1 f_sorted' f_put1 a_place1 a_nodeAt1 a_end1 a_up1 a_children1 a_above1 a_named1 a_valueAt1 a_table1 a_results1 a_known1 a_along1 a_stack1 a_matched' a_chosen' a_waiting1 a_depths1 a_outputs1 (-3) [] g1 g2 g3 s1 s2 (Or.inl ⟨hn, rfl, rfl⟩) (by simp) trivial hz)
    (fun f_counted1 f_put1 a_place1 a_nodeAt1 a_end1 a_up1 a_children1 a_above1 a_named1 a_valueAt1 a_table1 a_results1 a_known1 a_along1 a_stack1 a_waiting1 a_depths1 a_outputs1 o g1 g2 g3 hn hl hoa hz => hp f_counted1 f_sorted' f_put1 a_place1 a_nodeAt1 a_end1 a_up1 a_children1 a_above1 a_named1 a_valueAt1 a_table1 a_results1 a_known1 a_along1 a_stack1 a_matched' a_chosen' a_waiting1 a_depths1 a_outputs1 (nI o.length) o g1 g2 g3 s1 s2 (Or.inr ⟨hn, rfl⟩) hl hoa hz)
    102 [(x, 0)] 0 [] f_counted' 0 a_place' a_nodeAt' a_end' a_up' a_children' a_above' a_named' a_valueAt' a_table' a_results' a_known' a_along' a_stack' (upd a_waiting 0 (nI x)) (upd a_depths 0 (nI 0)) a_outputs (by omega) (by omega) (by simp) (fun p hp => by rw [List.mem_singleton.mp hp]; exact ⟨hx, by show 0 ≤ 12; omega⟩) (by simp) ⟨pk_us, pk_us, trivial⟩ trivial rfl c1 c2 c3 hres
end
end
section
/-! ===== Y.transform ===== -/
section
variable {c : Nat} {r D nm : Nat → Nat} {va : Nat → Int32} {ln : Nat → Nat} {KK : Nat → Nat → Nat} {VV : Nat → Nat → Int32} {mo oo no : Nat → Option Nat} {g_count g_top g_listed g_outputs : Int32} {b_row b_depth b_name b_value b_moved b_kind b_with b_length b_sets b_fresh b_type b_number b_set b_list b_there b_match b_priority b_out b_on b_todo b_within b_output : Nat → Int32}
theorem ty_push (W : tr_TW c r D nm) (T : yy_t g_count b_row b_depth b_name b_value c r D nm va) {h d : Nat} (hd : d ≤ 11) {s : Int32} (hok : bs_ok c s) {post : Int32 → SY → Prop} {J : Int32 → Int32 → Int32 → Int32 → Int32 → Int32 → (Nat → Int32) → (Nat → Int32) → (Nat → Int32) → (Nat → Int32) → (Nat → Int32) → (Nat → Int32) → (Nat → Int32) → (Nat → Int32) → (Nat → Int32) → (Nat → Int32) → (Nat → Int32) → (Nat → Int32) → (Nat → Int32) → (Nat → Int32) → (Nat → Int32) → (Nat → Int32) → (Nat → Int32) → (Nat → Int32) → (Nat → Int32) → (Nat → Int32) → (Nat → Int32) → (Nat → Int32) → Prop}
    {M : List (Nat × Nat)} (hJ : ∀ td wi, tm_sk r td wi M → J (nI M.length) (nI h) g_count g_top g_listed g_outputs b_row b_depth b_name b_value b_moved b_kind b_with b_length b_sets b_fresh b_type b_number b_set b_list b_there b_match b_priority b_out b_on td wi b_output) :
    ∀ (t : Nat) (S : List (Nat × Nat)) (td wi : Nat → Int32), t ≤ c → S.length + t ≤ 3000 → tm_sk r td wi S → M = ((List.range t).filter (fun k => bt s k)).map (fun y => (y, d + 1)) ++ S →
      wY_transform_230 post J (nI h) (nI d) (sm_im r s) g_count g_top g_listed g_outputs (t + 1) (nI S.length) (nI t + (-1)) b_row b_depth b_name b_value b_moved b_kind b_with b_length b_sets b_fresh b_type b_number b_set b_list b_there b_match b_priority b_out b_on td wi b_output := by
  have hc := W.1
  have hr := W.2.1
  intro t
  induction t with
  | zero =>
    intro S td wi _ _ hs hM
    have e : M = S := hM
    rw [← e] at hs ⊢
    exact br_t (show (nI 0 + (-1) : Int32) < 0 by decide) (hJ td wi hs)
  | succ t ih =>
    intro S td wi htc hl hs hM
    rw [pk_m1]
    have hrt := hr t (by omega)
    have er : b_row (nI t).toNatClampNeg = nI (r t) := by rw [nI_clamp (by omega)]; exact (T.2 t (by omega)).1
    have eb : bt (sm_im r s) (r t) = bt s t := im_bt hc hr W.2.2.1 hok (by omega)
    have ec : (sm_im r s >>> (b_row (nI t).toNatClampNeg &&& 31)) &&& 1 = (sm_im r s >>> (nI (r t) &&& 31)) &&& 1 := by rw [er]
    rw [List.range_succ, List.filter_append, List.map_append, List.append_assoc] at hM
    refine pk_lt t 0 (fun z => by omega) (fun _ => ⟨pk_in t 24 (by omega), ?_⟩)
    by_cases y : bt s t = true
    · have e1 : (([t] : List Nat).filter (fun k => bt s k)) = [t] := by rw [List.filter_cons, if_pos y]; rfl
      rw [e1] at hM
      refine br_f (fun z => by have := (bs_t0 (by omega)).mp (ec.symm.trans z); rw [eb, y] at this; exact absurd this (by decide)) ⟨pk_in t 24 (by omega), pk_in S.length 3000 (by omega), nm_r (up_cl (by omega) er) (nm_r (nI_1 _) ⟨pk_in S.length 3000 (by omega), nm_r (up_cl (by omega) (nI_1 d)) (nm_e ?_)⟩)⟩
      exact ih ((t, d + 1) :: S) _ _ (by omega) (by rw [List.length_cons]; omega) (tm_sk_push (x := t) hs) hM
    · have e1 : (([t] : List Nat).filter (fun k => bt s k)) = [] := by rw [List.filter_cons, if_neg y]; rfl
      rw [e1] at hM
      exact br_t (ec.trans ((bs_t0 (by omega)).mpr (eb.trans (ts_nt y)))) (nm_e (ih S td wi (by omega) (by omega) hs hM))
theorem ty_trans_loop (W : tr_TW c r D nm) (hc0 : 0 < c) (T : yy_t g_count b_row b_depth b_name b_value c r D nm va) (hln40 : ∀ t, ln t ≤ 40) (SL : yy_SL ln KK VV b_length b_kind b_with) (hM : yy_M mo b_there b_match)
    (hO : ∀ t, t < 6 → b_out t = tm_mo (oo t) ∧ ∀ m, oo t = some m → m < 8) (hN : ∀ t, t < 6 → b_on t = tm_mo (no t) ∧ ∀ m, no t = some m → m < 8) {RES : Option (List Int32)} {post : Int32 → SY → Prop}
    (hp0 : ∀ (g_top' g_listed' g_outputs' : Int32) (b_sets' b_fresh' b_type' b_number' b_set' b_list' b_todo' b_within' b_output' : Nat → Int32), yy_fr c r D nm va ln KK VV b_fresh' b_sets' → RES = none → g_outputs' = 0 → post (-3) (g_count, g_top', g_listed', g_outputs', b_row, b_depth, b_name, b_value, b_moved, b_kind, b_with, b_length, b_sets', b_fresh', b_type', b_number', b_set', b_list', b_there, b_match, b_priority, b_out, b_on, b_todo', b_within', b_output'))
    (hp1 : ∀ (g_top' g_listed' g_outputs' : Int32) (b_sets' b_fresh' b_type' b_number' b_set' b_list' b_todo' b_within' b_output' : Nat → Int32) o, yy_fr c r D nm va ln KK VV b_fresh' b_sets' → RES = some o → o.length ≤ 100 → om_ar b_output' 0 o → g_outputs' = nI o.length → post (nI o.length) (g_count, g_top', g_listed', g_outputs', b_row, b_depth, b_name, b_value, b_moved, b_kind, b_with, b_length, b_sets', b_fresh', b_type', b_number', b_set', b_list', b_there, b_match, b_priority, b_out, b_on, b_todo', b_within', b_output')) :
    ∀ f S h o g_top' g_listed' g_outputs' b_sets' b_fresh' b_type' b_number' b_set' b_list' b_todo' b_within' b_output', 102 ≤ f + h → h ≤ 100 → S.length ≤ 1 + 24 * h → (∀ p, p ∈ S → p.1 < c ∧ p.2 ≤ 12) → o.length ≤ h → tm_sk r b_todo' b_within' S → om_ar b_output' 0 o → g_outputs' = nI o.length → yy_fr c r D nm va ln KK VV b_fresh' b_sets' →
      RES = tm_tf (fun x => tm_ks c D ln KK (sm_R c D nm va ln KK VV) no (tm_best (fun t => bt (tm_M c D ln KK (sm_R c D nm va ln KK VV) (mo t)) x) b_priority 6) x) (fun x => tm_os va ln KK (sm_R c D nm va ln KK VV) oo (tm_best (fun t => bt (tm_M c D ln KK (sm_R c D nm va ln KK VV) (mo t)) x) b_priority 6) x) f S h o →
      wY_transform_36 post f (nI S.length) (nI h) g_count g_top' g_listed' g_outputs' b_row b_depth b_name b_value b_moved b_kind b_with b_length b_sets' b_fresh' b_type' b_number' b_set' b_list' b_there b_match b_priority b_out b_on b_todo' b_within' b_output' := by
  have hc := W.1
  have hr := W.2.1
  intro f
  induction f with
  | zero => intro S h o g_top' g_listed' g_outputs' b_sets' b_fresh' b_type' b_number' b_set' b_list' b_todo' b_within' b_output' hf hh; omega
  | succ f ih =>
    intro S h o g_top' g_listed' g_outputs' b_sets' b_fresh' b_type' b_number' b_set' b_list' b_todo' b_within' b_output' hf hh hSl hSb hol hsk hoa hput c3 hres
    cases S with
    | nil =>
      have hres : RES = some o := hres
      refine br_t (show nI 0 ≤ 0 by decide) ?_
      have := hp1 g_top' g_listed' g_outputs' b_sets' b_fresh' b_type' b_number' b_set' b_list' b_todo' b_within' b_output' o c3 hres (by omega) hoa hput
      rw [← hput] at this
      exact this
    | cons p S =>
      obtain ⟨x, d⟩ := p
      rw [List.length_cons] at hSl
      obtain ⟨hx, hd⟩ := hSb (x, d) (List.mem_cons_self ..)
      have hx : x < c := hx
      have hd : d ≤ 12 := hd
      have hrx := hr x hx
      obtain ⟨k1, k2, k3⟩ := hsk
      have k1 : b_todo' S.length = nI (r x) := k1
      have k2 : b_within' S.length = nI d := k2
      rw [tm_tf_s] at hres
      have cS : (nI S.length).toNatClampNeg = S.length := nI_clamp (by omega)
      rw [List.length_cons]
      refine pk_le (S.length + 1) 0 (fun z => by omega) (fun _ => nm_r (pk_m1 S.length) ⟨pk_in S.length 3000 (by omega), nm_r (e' := nI (r x)) (by rw [cS]; exact k1) ⟨pk_in S.length 3000 (by omega), nm_r (e' := nI d) (by rw [cS]; exact k2) (nm_r (nI_1 h) ?_)⟩⟩)
      have stall : 100 < h + 1 ∨ 11 < d → post (-3) (g_count, g_top', g_listed', 0, b_row, b_depth, b_name, b_value, b_moved, b_kind, b_with, b_length, b_sets', b_fresh', b_type', b_number', b_set', b_list', b_there, b_match, b_priority, b_out, b_on, b_todo', b_within', b_output') := by
        intro z
        rw [if_pos z] at hres
        exact hp0 g_top' g_listed' 0 b_sets' b_fresh' b_type' b_number' b_set' b_list' b_todo' b_within' b_output' c3 hres rfl
      refine pk_lt 100 (h + 1) (fun z => stall (Or.inl z)) (fun z => pk_le d 11 (fun y => ?_) (fun y => stall (Or.inr y)))
      rw [if_neg (by omega)] at hres
      -- pushing
      have push : ∀ (s w : Int32) (g_top1 g_listed1 g_outputs1 : Int32) (b_sets1 b_fresh1 b_type1 b_number1 b_set1 b_list1 b_todo1 b_within1 b_output1 : Nat → Int32) (o1 : List Int32), w = sm_im r s → bs_ok c s → o1.length ≤ h + 1 → om_ar b_output1 0 o1 → g_outputs1 = nI o1.length → tm_sk r b_todo1 b_within1 S → yy_fr c r D nm va ln KK VV b_fresh1 b_sets1 →
          RES = tm_tf (fun x => tm_ks c D ln KK (sm_R c D nm va ln KK VV) no (tm_best (fun t => bt (tm_M c D ln KK (sm_R c D nm va ln KK VV) (mo t)) x) b_priority 6) x) (fun x => tm_os va ln KK (sm_R c D nm va ln KK VV) oo (tm_best (fun t => bt (tm_M c D ln KK (sm_R c D nm va ln KK VV) (mo t)) x) b_priority 6) x) f ((bs_els s).map (fun y => (y, d + 1)) ++ S) (h + 1) o1 →
          ∀ x8 : Int32, x8 = g_count - 1 → ∃ n230, wY_transform_230 post (wY_transform_36 post f) (nI (h + 1)) (nI d) w g_count g_top1 g_listed1 g_outputs1 n230 (nI S.length) x8 b_row b_depth b_name b_value b_moved b_kind b_with b_length b_sets1 b_fresh1 b_type1 b_number1 b_set1 b_list1 b_there b_match b_priority b_out b_on b_todo1 b_within1 b_output1 := by
        intro s w g_top1 g_listed1 g_outputs1 b_sets1 b_fresh1 b_type1 b_number1 b_set1 b_list1 b_todo1 b_within1 b_output1 o1 hw hok ho1 hoa1 hput1 hsk1 g3 hr1 x8 hx8
        subst hw
        have hl := els_len s
        have e8 : x8 = nI c + (-1) := by
          rw [hx8]
          have : g_count = nI c := T.1
          rw [this, Int32.sub_eq_add_neg]
        subst e8
        have hh := ty_push (post := post) W T (g_top := g_top1) (g_listed := g_listed1) (g_outputs := g_outputs1) (b_moved := b_moved) (b_sets := b_sets1) (b_fresh := b_fresh1) (b_type := b_type1) (b_number := b_number1) (b_set := b_set1) (b_list := b_list1) (b_output := b_output1) (h := h + 1) (d := d) y hok (J := wY_transform_36 post f) (M := (bs_els s).map (fun y => (y, d + 1)) ++ S) (fun td wi hm => ih ((bs_els s).map (fun y => (y, d + 1)) ++ S) (h + 1) o1 g_top1 g_listed1 g_outputs1 b_sets1 b_fresh1 b_type1 b_number1 b_set1 b_list1 td wi b_output1 (by omega) (by omega) (by rw [List.length_append, List.length_map]; omega) (fun q hq => ?_) ho1 hm hoa1 hput1 g3 hr1) c S b_todo1 b_within1 (Nat.le_refl _) (by omega) hsk1 (by rw [els_range hc hok])
        · exact ⟨_, hh⟩
        · rcases List.mem_append.mp hq with w | w
          · obtain ⟨q0, w1, w2⟩ := List.mem_map.mp w
            rw [← w2]
            exact ⟨bs_ok_els hok w1, by show d + 1 ≤ 12; omega⟩
          · exact hSb q (List.mem_cons_of_mem _ w)
      have im00 : (0 : Int32) = sm_im r 0 := ((im_0 hc hr W.2.2.1 (bs_0_ok c)).mpr rfl).symm
      refine ty_best W T hln40 SL hM hx c3 (fun g_top1 g_listed1 b_sets1 b_fresh1 b_type1 b_number1 b_set1 b_list1 f1 => ?_)
      cases e : tm_best (fun t => bt (tm_M c D ln KK (sm_R c D nm va ln KK VV) (mo t)) x) b_priority 6 with
      | none =>
        refine br_f (show ¬ (0 : Int32) ≤ -1 by decide) (ty_childrenOf W T hx (br_t (show (-1 : Int32) < 0 by decide) (br_t (show (-1 : Int32) < 0 by decide) ?_)))
        refine push (bs_fs c (fun k => decide (tr_pr D k = some x))) _ g_top1 g_listed1 g_outputs' b_sets1 b_fresh1 b_type1 b_number1 b_set1 b_list1 b_todo' b_within' b_output' o rfl (bs_fs_ok (by omega) _) (by omega) hoa hput k3 f1 ?_
        rw [hres]
        simp only [e]
        show tm_tf _ _ f _ (h + 1) (o ++ []) = _
        rw [List.append_nil]
        rfl
      | some t =>
        have ht := tm_best_lt 6 e
        have ct : (nI t).toNatClampNeg = t := nI_clamp (by omega)
        obtain ⟨n1, n2⟩ := hN t ht
        obtain ⟨u1, u2⟩ := hO t ht
        have eon : b_on (nI t).toNatClampNeg = tm_mo (no t) := by rw [ct]; exact n1
        have eou : b_out (nI t).toNatClampNeg = tm_mo (oo t) := by rw [ct]; exact u1
        have hres' : RES = tm_tf (fun x => tm_ks c D ln KK (sm_R c D nm va ln KK VV) no (tm_best (fun t => bt (tm_M c D ln KK (sm_R c D nm va ln KK VV) (mo t)) x) b_priority 6) x) (fun x => tm_os va ln KK (sm_R c D nm va ln KK VV) oo (tm_best (fun t => bt (tm_M c D ln KK (sm_R c D nm va ln KK VV) (mo t)) x) b_priority 6) x) f ((bs_els (tm_onv ln KK (sm_R c D nm va ln KK VV) (no t) x)).map (fun y => (y, d + 1)) ++ S) (h + 1) (o ++ tm_ouv va ln KK (sm_R c D nm va ln KK VV) (oo t) x) := by
          rw [hres]
          simp only [e]
          rfl
        have ho1 : (o ++ tm_ouv va ln KK (sm_R c D nm va ln KK VV) (oo t) x).length ≤ h + 1 := by
          rw [List.length_append]
          have : (tm_ouv va ln KK (sm_R c D nm va ln KK VV) (oo t) x).length ≤ 1 := by
            cases oo t with
            | none => show 0 ≤ 1; omega
            | some s =>
              show (if 0 < ln s then [_] else []).length ≤ 1
              by_cases z : 0 < ln s
              · rw [if_pos z]; exact Nat.le_refl _
              · rw [if_neg z]; exact Nat.zero_le _
          omega
        -- what is handled then
        have k172 : ∀ (g_top1 g_listed1 g_outputs1 : Int32) (b_sets1 b_fresh1 b_type1 b_number1 b_set1 b_list1 b_todo1 b_within1 b_output1 : Nat → Int32), om_ar b_output1 0 (o ++ tm_ouv va ln KK (sm_R c D nm va ln KK VV) (oo t) x) → g_outputs1 = nI (o ++ tm_ouv va ln KK (sm_R c D nm va ln KK VV) (oo t) x).length → tm_sk r b_todo1 b_within1 S → yy_fr c r D nm va ln KK VV b_fresh1 b_sets1 →
            wY_transform_172 post (wY_transform_36 post f) (nI S.length) (nI (h + 1)) (nI (r x)) (nI d) (nI t) 0 g_count g_top1 g_listed1 g_outputs1 b_row b_depth b_name b_value b_moved b_kind b_with b_length b_sets1 b_fresh1 b_type1 b_number1 b_set1 b_list1 b_there b_match b_priority b_out b_on b_todo1 b_within1 b_output1 := by
          intro g_top1 g_listed1 g_outputs1 b_sets1 b_fresh1 b_type1 b_number1 b_set1 b_list1 b_todo1 b_within1 b_output1 q1 q2 q3 q4
          have zero : tm_onv ln KK (sm_R c D nm va ln KK VV) (no t) x = 0 → ∀ x8 : Int32, x8 = g_count - 1 → ∃ n230, wY_transform_230 post (wY_transform_36 post f) (nI (h + 1)) (nI d) 0 g_count g_top1 g_listed1 g_outputs1 n230 (nI S.length) x8 b_row b_depth b_name b_value b_moved b_kind b_with b_length b_sets1 b_fresh1 b_type1 b_number1 b_set1 b_list1 b_there b_match b_priority b_out b_on b_todo1 b_within1 b_output1 := by
            intro z
            rw [z] at hres'
            exact push 0 0 g_top1 g_listed1 g_outputs1 b_sets1 b_fresh1 b_type1 b_number1 b_set1 b_list1 b_todo1 b_within1 b_output1 _ im00 (bs_0_ok c) ho1 q1 q2 q3 q4 hres'
          refine br_f (nI_pos (by omega)) ⟨pk_in t 6 ht, ?_⟩
          cases e2 : no t with
          | none =>
            rw [e2] at zero
            exact br_t (by rw [eon, e2]; decide) (zero rfl)
          | some s =>
            have hs := n2 s e2
            have eon' : b_on (nI t).toNatClampNeg = nI s := by rw [eon, e2]; rfl
            rw [e2] at zero
            have zero : (if tm_set ln KK s = true then sm_R c D nm va ln KK VV s x else 0) = 0 → _ := zero
            refine br_f (by rw [eon']; exact nI_pos (by omega)) ⟨pk_in t 6 ht, ek_v (P := fun w => wpY_isSet _ _ w) eon' (ty_isSet SL hs (lb_br (fun hset => ?_) (fun hset => ?_)))⟩
            · have hs' := of_decide_eq_true hset
              obtain ⟨l1, l2⟩ := SL s hs
              obtain ⟨E, Sl⟩ := l2 hs'.1
              refine ⟨pk_in t 6 ht, ek_v (P := fun w => wpY_ask _ _ w _) eon' (ty_ask W T hln40 hs hx E Sl l1 q4 (fun g_top2 g_listed2 b_sets2 b_fresh2 b_type2 b_number2 b_set2 b_list2 f2 sk => ?_))⟩
              have es : b_set2 0 = sm_im r (sm_R c D nm va ln KK VV s x) := sk.2.1 (ex_ty_0.mpr hs'.2)
              have ev : tm_onv ln KK (sm_R c D nm va ln KK VV) (some s) x = sm_R c D nm va ln KK VV s x := by
                show (if tm_set ln KK s = true then sm_R c D nm va ln KK VV s x else 0) = _
                rw [if_pos hset]
              rw [e2, ev] at hres'
              refine nm_e (push (sm_R c D nm va ln KK VV s x) (b_set2 0) g_top2 g_listed2 g_outputs1 b_sets2 b_fresh2 b_type2 b_number2 b_set2 b_list2 b_todo1 b_within1 b_output1 _ es (sm_R_ok hc hc0 E hs'.2 hx) ho1 q1 q2 q3 f2 hres')
            · exact zero (by rw [if_neg (by rw [hset]; decide)])
        refine br_t (show (0 : Int32) ≤ nI t from nI_pos' (by omega)) (br_f (show ¬ nI t < 0 from nI_pos (by omega)) ⟨pk_in t 6 ht, ?_⟩)
        have none_out : tm_ouv va ln KK (sm_R c D nm va ln KK VV) (oo t) x = [] → wY_transform_172 post (wY_transform_36 post f) (nI S.length) (nI (h + 1)) (nI (r x)) (nI d) (nI t) 0 g_count g_top1 g_listed1 g_outputs' b_row b_depth b_name b_value b_moved b_kind b_with b_length b_sets1 b_fresh1 b_type1 b_number1 b_set1 b_list1 b_there b_match b_priority b_out b_on b_todo' b_within' b_output' := by
          intro z
          exact k172 g_top1 g_listed1 g_outputs' b_sets1 b_fresh1 b_type1 b_number1 b_set1 b_list1 b_todo' b_within' b_output' (by rw [z, List.append_nil]; exact hoa) (by rw [z, List.append_nil]; exact hput) k3 f1
        cases e3 : oo t with
        | none =>
          rw [e3] at none_out
          exact br_t (by show b_out (nI t).toNatClampNeg < 0; rw [eou, e3]; decide) (none_out rfl)
        | some s =>
          have hs := u2 s e3
          have cs : (nI s).toNatClampNeg = s := nI_clamp (by omega)
          have eou' : b_out (nI t).toNatClampNeg = nI s := by rw [eou, e3]; rfl
          obtain ⟨l1, l2⟩ := SL s hs
          have el : b_length (b_out (nI t).toNatClampNeg).toNatClampNeg = nI (ln s) := by rw [eou', cs]; exact l1
          rw [e3] at none_out
          refine br_f (by show ¬ b_out (nI t).toNatClampNeg < 0; rw [eou']; exact nI_pos (by omega)) ⟨pk_in t 6 ht, pk_in s 9 (by omega) eou', ?_⟩
          by_cases hl : ln s = 0
          · refine br_t (by show b_length (b_out (nI t).toNatClampNeg).toNatClampNeg ≤ 0; rw [el, hl]; decide) (none_out ?_)
            show (if 0 < ln s then _ else _) = _
            rw [if_neg (by omega)]
          · obtain ⟨E, Sl⟩ := l2 (by omega)
            have hn := E.2.1
            have eo : tm_ouv va ln KK (sm_R c D nm va ln KK VV) (oo t) x = [sm_pl va (ex_ty (KK s 0)) (sm_R c D nm va ln KK VV s x)] := by
              rw [e3]
              show (if 0 < ln s then _ else _) = _
              rw [if_pos (by omega)]
            refine br_f (by show ¬ b_length (b_out (nI t).toNatClampNeg).toNatClampNeg ≤ 0; rw [el]; exact nI_nle (by omega) (by omega)) ⟨pk_in t 6 ht, ek_v (P := fun w => wpY_ask _ _ w _) eou' (ty_ask W T hln40 hs hx E Sl l1 f1 (fun g_top2 g_listed2 b_sets2 b_fresh2 b_type2 b_number2 b_set2 b_list2 f2 sk => ?_))⟩
            have eput : g_outputs' + 1 = nI (o.length + 1) := by rw [hput]; exact nI_1 _
            refine nm_r eput (ty_plain (a := 0) W T (by omega) (ex_ty_le _) (fun t0 => sm_R_ok hc hc0 E (ex_ty_0.mp t0) hx) sk ⟨pk_in o.length 100 (by omega) hput, nm_r (up_n hput (by omega) rfl) ?_⟩)
            have h172 := k172 g_top2 g_listed2 (nI (o.length + 1)) b_sets2 b_fresh2 b_type2 b_number2 b_set2 b_list2 b_todo' b_within' (upd b_output' o.length (sm_pl va (ex_ty (KK s 0)) (sm_R c D nm va ln KK VV s x))) (by rw [eo]; exact om_ar_put hoa) (by rw [eo, List.length_append]; rfl) k3 f2
            exact h172
theorem ty_transform (W : tr_TW c r D nm) (T : yy_t g_count b_row b_depth b_name b_value c r D nm va) (hln40 : ∀ t, ln t ≤ 40) (SL : yy_SL ln KK VV b_length b_kind b_with) (hM : yy_M mo b_there b_match)
    (hO : ∀ t, t < 6 → b_out t = tm_mo (oo t) ∧ ∀ m, oo t = some m → m < 8) (hN : ∀ t, t < 6 → b_on t = tm_mo (no t) ∧ ∀ m, no t = some m → m < 8) (hF : yy_fr c r D nm va ln KK VV b_fresh b_sets) {x : Nat} (hx : x < c) {RES : Option (List Int32)}
    (hres : RES = tm_tf (fun x => tm_ks c D ln KK (sm_R c D nm va ln KK VV) no (tm_best (fun t => bt (tm_M c D ln KK (sm_R c D nm va ln KK VV) (mo t)) x) b_priority 6) x) (fun x => tm_os va ln KK (sm_R c D nm va ln KK VV) oo (tm_best (fun t => bt (tm_M c D ln KK (sm_R c D nm va ln KK VV) (mo t)) x) b_priority 6) x) 102 [(x, 0)] 0 []) {post : Int32 → SY → Prop}
    (hp : ∀ (g_top' g_listed' g_outputs' : Int32) (b_sets' b_fresh' b_type' b_number' b_set' b_list' b_todo' b_within' b_output' : Nat → Int32) w o, yy_fr c r D nm va ln KK VV b_fresh' b_sets' → (RES = none ∧ w = -3 ∧ o = [] ∨ RES = some o ∧ w = nI o.length) → o.length ≤ 100 → om_ar b_output' 0 o → g_outputs' = nI o.length → post w (g_count, g_top', g_listed', g_outputs', b_row, b_depth, b_name, b_value, b_moved, b_kind, b_with, b_length, b_sets', b_fresh', b_type', b_number', b_set', b_list', b_there, b_match, b_priority, b_out, b_on, b_todo', b_within', b_output')) :
    wpY_transform post (g_count, g_top, g_listed, g_outputs, b_row, b_depth, b_name, b_value, b_moved, b_kind, b_with, b_length, b_sets, b_fresh, b_type, b_number, b_set, b_list, b_there, b_match, b_priority, b_out, b_on, b_todo, b_within, b_output) (nI (r x)) := by
  have hc := W.1
  have hrx := W.2.1 x hx
  have TT : yy_T (g_count, g_top, g_listed, g_outputs, b_row, b_depth, b_name, b_value, b_moved, b_kind, b_with, b_length, b_sets, b_fresh, b_type, b_number, b_set, b_list, b_there, b_match, b_priority, b_out, b_on, b_todo, b_within, b_output) c r D nm va := T
  unfold wpY_transform
  refine ty_where1 (v := (g_count, g_top, g_listed, g_outputs, b_row, b_depth, b_name, b_value, b_moved, b_kind, b_with, b_length, b_sets, b_fresh, b_type, b_number, b_set, b_list, b_there, b_match, b_priority, b_out, b_on, b_todo, b_within, b_output)) W TT hx (br_t (nI_pos' (by omega)) (nm_e (nm_r (nI_1 0) (nm_e ⟨102, ?_⟩))))
  exact ty_trans_loop W (by omega) T hln40 SL hM hO hN (RES := RES)
    (fun g_top1 g_listed1 g_outputs1 b_sets1 b_fresh1 b_type1 b_number1 b_set1 b_list1 b_todo1 b_within1 b_output1 g3 hn hz => hp g_top1 g_listed1 g_outputs1 b_sets1 b_fresh1 b_type1 b_number1 b_set1 b_list1 b_todo1 b_within1 b_output1 (-3) [] g3 (Or.inl ⟨hn, rfl, rfl⟩) (by simp) trivial hz)
    (fun g_top1 g_listed1 g_outputs1 b_sets1 b_fresh1 b_type1 b_number1 b_set1 b_list1 b_todo1 b_within1 b_output1 o g3 hn hl hoa hz => hp g_top1 g_listed1 g_outputs1 b_sets1 b_fresh1 b_type1 b_number1 b_set1 b_list1 b_todo1 b_within1 b_output1 (nI o.length) o g3 (Or.inr ⟨hn, rfl⟩) hl hoa hz)
    102 [(x, 0)] 0 [] g_top g_listed 0 b_sets b_fresh b_type b_number b_set b_list (upd b_todo 0 (nI (r x))) (upd b_within 0 0) b_output (by omega) (by omega) (by simp) (fun p hp => by rw [List.mem_singleton.mp hp]; exact ⟨hx, by show 0 ≤ 12; omega⟩) (by simp) ⟨pk_us, pk_us, trivial⟩ trivial rfl hF hres
end
end
section
/-! ===== the tree with a block put in; insert ===== -/
def tr_spI (q m : Nat) (f b : Nat → Int32) : Nat → Int32 := fun i => if i < q then f i else if i < q + m then b (i - q) else f (i - m)
theorem tr_spI_sh {q m i : Nat} {f b : Nat → Int32} : tr_spI q m f b (tr_sh q m i) = f i := by
  unfold tr_sh tr_spI
  by_cases h : i < q
  · rw [if_pos h, if_pos h]
  · rw [if_neg h, if_neg (by omega), if_neg (by omega)]; congr 1; omega
theorem tr_spI_mid {q m j : Nat} {f b : Nat → Int32} (h : j < m) : tr_spI q m f b (q + j) = b j := by
  unfold tr_spI; rw [if_neg (by omega), if_pos (by omega)]; congr 1; omega
section
variable {c q m p : Nat} {r D nm E b bn : Nat → Nat} {va bv : Nat → Int32}
theorem tr_TW_sp (W : tr_TW c r D nm) (S : tr_SP c q m p D E) (hcm : c + m ≤ 24) (hb : ∀ j, j < m → b j < 24) (hbi : tr_inj m b) (hd : ∀ i j, i < c → j < m → r i ≠ b j) (hn : ∀ j, j < m → bn j < 6) : tr_TW (c + m) (tr_sp q m r b) (tr_sp q m D E) (tr_sp q m nm bn) := by
  have hq := tr_SP_q S
  refine ⟨hcm, fun k hk => ?_, tr_inj_sp hq W.2.2.1 hbi hd, tr_SP_W S, fun k hk => ?_⟩
  · rcases tr_cases hq hk with ⟨i, hi, rfl⟩ | ⟨j, hj, rfl⟩
    · rw [tr_sp_sh]; exact W.2.1 i hi
    · rw [tr_sp_mid hj]; exact hb j hj
  · rcases tr_cases hq hk with ⟨i, hi, rfl⟩ | ⟨j, hj, rfl⟩
    · rw [tr_sp_sh]; exact W.2.2.2.2 i hi
    · rw [tr_sp_mid hj]; exact hn j hj
theorem yy_t_sp (hq : q ≤ c) {row depth name value : Nat → Int32} (h1 : ∀ k, k < c + m → row k = nI (tr_sp q m r b k)) (h2 : ∀ i, i < c → depth (r i) = nI (D i) ∧ name (r i) = nI (nm i) ∧ value (r i) = va i) (h3 : ∀ j, j < m → depth (b j) = nI (E j) ∧ name (b j) = nI (bn j) ∧ value (b j) = bv j) :
    yy_t (nI (c + m)) row depth name value (c + m) (tr_sp q m r b) (tr_sp q m D E) (tr_sp q m nm bn) (tr_spI q m va bv) := by
  refine ⟨rfl, fun k hk => ⟨h1 k hk, ?_⟩⟩
  rcases tr_cases hq hk with ⟨i, hi, rfl⟩ | ⟨j, hj, rfl⟩
  · rw [tr_sp_sh, tr_sp_sh, tr_sp_sh, tr_spI_sh]; exact h2 i hi
  · rw [tr_sp_mid hj, tr_sp_mid hj, tr_sp_mid hj, tr_spI_mid hj]; exact h3 j hj
theorem xx_t_sp (S : tr_SP c q m p D E) {root : Int32} {names values parent first next : Nat → Int32} (hroot : root = nI (r 0)) (h2 : ∀ i, i < c → names (r i) = nI (nm i) ∧ values (r i) = va i) (h3 : ∀ j, j < m → names (b j) = nI (bn j) ∧ values (b j) = bv j)
    (L : tr_LK (c + m) (tr_sp q m D E) (tr_sp q m r b) first next parent) (h4 : ∀ n, n < 24 → (∀ i, i < c → r i ≠ n) → (∀ j, j < m → b j ≠ n) → names n = -1) :
    xx_t (nI (c + m)) root names values parent first next (c + m) (tr_sp q m r b) (tr_sp q m D E) (tr_sp q m nm bn) (tr_spI q m va bv) := by
  have hq := tr_SP_q S
  have hp := S.2.1
  have hpc := S.2.2.2.1
  refine ⟨rfl, ?_, fun k hk => ?_, L, fun n hn h => h4 n hn (fun i hi e => ?_) (fun j hj e => ?_)⟩
  · rw [if_neg (by omega), tr_sp_lo (by omega)]; exact hroot
  · rcases tr_cases hq hk with ⟨i, hi, rfl⟩ | ⟨j, hj, rfl⟩
    · rw [tr_sp_sh, tr_sp_sh, tr_spI_sh]; exact h2 i hi
    · rw [tr_sp_mid hj, tr_sp_mid hj, tr_spI_mid hj]; exact h3 j hj
  · refine h (tr_sh q m i) ?_ (by rw [tr_sp_sh]; exact e)
    unfold tr_sh
    by_cases z : i < q
    · rw [if_pos z]; omega
    · rw [if_neg z]; omega
  · exact h (q + j) (by omega) (by rw [tr_sp_mid hj]; exact e)
/-- the place for a new child kk of p -/
theorem tr_SP_new (W : tr_W c D) (hp : p < c) {K kk : Nat} (hK : tr_Hn c D p K (p + 1)) (hk : kk ≤ K) (hm : 0 < m) (h0 : E 0 = D p + 1) (h1 : ∀ j, 0 < j → j < m → E 0 < E j) (h2 : ∀ j, j + 1 < m → E (j + 1) ≤ E j + 1) : tr_SP c (tr_it c D kk (p + 1)) m p D E := by
  obtain ⟨a1, a2⟩ := tr_it_Cb hp kk K (p + 1) (tr_Cb_0 W hp) hK hk
  exact ⟨W, a1.1, a1.2.1, hp, a1.2.2, hm, h0, h1, h2⟩
/-- when no child stands ahead of the place -/
theorem tr_pv_none (W : tr_W c D) (hp : p < c) {i : Nat} (hi : i < c) : ¬ tr_pv c D p (p + 1) i := by
  rintro ⟨h1, h2, h3⟩
  have := (tr_be_spec (D := D) hi).1
  omega
theorem tr_pv_uniq {x y : Nat} (hx : x < c) (hy : y < c) (h1 : tr_pv c D p q x) (h2 : tr_pv c D p q y) : x = y := by
  obtain ⟨a1, a2, a3⟩ := h1
  obtain ⟨b1, b2, b3⟩ := h2
  have s1 := tr_be_spec (D := D) hx
  have s2 := tr_be_spec (D := D) hy
  rcases Nat.lt_trichotomy x y with z | z | z
  · have := s1.2.2.1 y z (by have := s2.1; omega); omega
  · exact z
  · have := s2.2.2.1 x z (by have := s1.1; omega); omega
theorem tr_pv_ne {i : Nat} (hi : i < c) (h : tr_pv c D p q i) : q ≠ p + 1 := by
  have := (tr_be_spec (D := D) hi).1
  have := h.1
  have := h.2.2
  omega
end
/-! a free node -/
theorem free_ex {c : Nat} {r : Nat → Nat} (hc : c < 24) (hr : ∀ i, i < c → r i < 24) (hj : tr_inj c r) : ∃ nb, nb < 24 ∧ (∀ i, i < c → r i ≠ nb) ∧ ∀ n, n < nb → ∃ i, i < c ∧ r i = n := by
  by_cases h : ∃ n, n < 24 ∧ ∀ i, i < c → r i ≠ n
  · obtain ⟨nb, ⟨h1, h2⟩, h3⟩ := pk_least (fun n => n < 24 ∧ ∀ i, i < c → r i ≠ n) h
    refine ⟨nb, h1, h2, fun n hn => ?_⟩
    have := h3 n hn
    by_cases z : ∃ i, i < c ∧ r i = n
    · exact z
    · exact absurd ⟨by omega, fun i hi e => z ⟨i, hi, e⟩⟩ this
  · exfalso
    have all : ∀ n, n < 24 → ∃ i, i < c ∧ r i = n := by
      intro n hn
      by_cases z : ∃ i, i < c ∧ r i = n
      · exact z
      · exact absurd ⟨n, hn, fun i hi e => z ⟨i, hi, e⟩⟩ h
    have hb : ∀ k, k ∈ (List.range c).map r → k < 24 := by
      intro k hk
      obtain ⟨i, a, b⟩ := List.mem_map.mp hk
      rw [← b]; exact hr i (List.mem_range.mp a)
    have e1 := sw_bo (g := fun _ => 1) ((List.range c).map r) (nodup_map hj (List.range c) List.pairwise_lt_range (fun k hk => List.mem_range.mp hk)) hb
    rw [ls_one, List.length_map, List.length_range] at e1
    have e2 : sw (fun i => bt (bs_bo ((List.range c).map r)) i) (fun _ => 1) 24 = sw (fun _ => true) (fun _ => 1) 24 := by
      apply sw_congr
      intro i hi
      show bt (bs_bo _) i = true
      rw [bs_bo_bt (fun k hk => by have := hb k hk; omega)]
      obtain ⟨j, a, b⟩ := all i hi
      exact decide_eq_true (List.mem_map.mpr ⟨j, List.mem_range.mpr a, b⟩)
    rw [e2] at e1
    have e3 : sw (fun _ => true) (fun _ => 1) 24 = nI 24 := by decide +kernel
    rw [e3] at e1
    have := (nI_eq (by omega) (by omega)).mp e1
    omega
section
variable {c : Nat} {r D nm : Nat → Nat} {va : Nat → Int32} {f_root f_used f_counted f_sorted f_put : Int32} {a_names a_values a_parent a_first a_next a_place a_nodeAt a_end a_up a_children a_above a_named a_valueAt a_kinds a_vals a_types a_behind a_local a_length a_open a_table a_results a_known a_along a_stack a_match a_priority a_out a_on a_matched a_chosen a_waiting a_depths a_outputs : Nat → Int32}
/-- X's search for a free node and what it writes there -/
theorem tx_insert51 (W : tr_TW c r D nm) (T : xx_t f_used f_root a_names a_values a_parent a_first a_next c r D nm va) {nb a : Nat} {x1 x2 : Int32} (hnb : nb < 24) (hn1 : ∀ i, i < c → r i ≠ nb) (hn2 : ∀ n, n < nb → ∃ i, i < c ∧ r i = n) (ha : a < 6) {post : Int32 → SX → Prop}
    (h0 : f_root < 0 → wX_insert_142 post (nI nb) (nI nb) (nI (c + 1)) f_counted f_sorted f_put (upd a_names nb (nI a)) (upd a_values nb 0) (upd a_parent nb (-1)) (upd a_first nb (-1)) (upd a_next nb (-1)) a_place a_nodeAt a_end a_up a_children a_above a_named a_valueAt a_kinds a_vals a_types a_behind a_local a_length a_open a_table a_results a_known a_along a_stack a_match a_priority a_out a_on a_matched a_chosen a_waiting a_depths a_outputs)
    (h1 : ¬ f_root < 0 → wpX_link (fun u => match u with | (f_root, f_used, f_counted, f_sorted, f_put, a_names, a_values, a_parent, a_first, a_next, a_place, a_nodeAt, a_end, a_up, a_children, a_above, a_named, a_valueAt, a_kinds, a_vals, a_types, a_behind, a_local, a_length, a_open, a_table, a_results, a_known, a_along, a_stack, a_match, a_priority, a_out, a_on, a_matched, a_chosen, a_waiting, a_depths, a_outputs) => wX_insert_142 post (nI nb) f_root f_used f_counted f_sorted f_put a_names a_values a_parent a_first a_next a_place a_nodeAt a_end a_up a_children a_above a_named a_valueAt a_kinds a_vals a_types a_behind a_local a_length a_open a_table a_results a_known a_along a_stack a_match a_priority a_out a_on a_matched a_chosen a_waiting a_depths a_outputs) (f_root, nI (c + 1), f_counted, f_sorted, f_put, upd a_names nb (nI a), upd a_values nb 0, a_parent, upd a_first nb (-1), upd a_next nb (-1), a_place, a_nodeAt, a_end, a_up, a_children, a_above, a_named, a_valueAt, a_kinds, a_vals, a_types, a_behind, a_local, a_length, a_open, a_table, a_results, a_known, a_along, a_stack, a_match, a_priority, a_out, a_on, a_matched, a_chosen, a_waiting, a_depths, a_outputs) (nI nb) x1 x2) :
    ∀ d j, j + d = nb → wX_insert_51 post x1 x2 (nI a) f_root f_used f_counted f_sorted f_put a_names a_values a_parent a_first a_next a_place a_nodeAt a_end a_up a_children a_above a_named a_valueAt a_kinds a_vals a_types a_behind a_local a_length a_open a_table a_results a_known a_along a_stack a_match a_priority a_out a_on a_matched a_chosen a_waiting a_depths a_outputs (d + 1) (nI j) := by
  have hc := W.1
  intro d
  induction d with
  | zero =>
    intro j hj
    have e : j = nb := by omega
    subst e
    have en : a_names (nI j).toNatClampNeg = -1 := by rw [nI_clamp (by omega)]; exact T.2.2.2.2 j hnb hn1
    have eu : f_used + 1 = nI (c + 1) := by rw [T.1]; exact nI_1 c
    have v := pk_in j 24 hnb (hN := by omega)
    refine ⟨v, br_t (by rw [en]; decide) ⟨v, nm_r (up_cl (by omega) (bs_nb (by omega))) ⟨v, nm_r (up_cl (by omega) rfl) ⟨v, nm_r (up_cl (by omega) bs_nb1) ⟨v, nm_r (up_cl (by omega) bs_nb1) (nm_r eu ?_)⟩⟩⟩⟩⟩
    by_cases z : f_root < 0
    · exact br_t z ⟨v, nm_r (up_cl (by omega) bs_nb1) (h0 z)⟩
    · exact br_f z (h1 z)
  | succ d ih =>
    intro j hj
    obtain ⟨i, hi, hri⟩ := hn2 j (by omega)
    have hnm := W.2.2.2.2 i hi
    have en : a_names (nI j).toNatClampNeg = nI (nm i) := by rw [nI_clamp (by omega), ← hri]; exact (T.2.2.1 i hi).1
    exact ⟨pk_in j 24 (by omega), br_f (by rw [en]; exact nI_pos (by omega)) (nm_r (nI_1 j) (ih (j + 1) (by omega)))⟩
theorem tx_isName1 {post : Int32 → Prop} {a : Nat} (ha : a < 6) (hp : post 1) : wpX_isName post (nI a) := pk_lt a 0 (fun z => by omega) (fun _ => pk_le 6 a (fun z => by omega) (fun _ => hp))
theorem tx_isName0 {post : Int32 → Prop} {x : Int32} (hx : ∀ a, a < 6 → x ≠ nI a) (hp : post 0) : wpX_isName post x := by
  rcases pk_ix x (n := 6) (by omega) with h | h | ⟨j, hj, rfl⟩
  · exact br_t h hp
  · have h0 : ¬ x < 0 := fun z => by
      have a : (nI 6 : Int32) < 0 := Int32.lt_of_le_of_lt h z
      exact absurd a (by decide)
    exact br_f h0 (br_t h hp)
  · exact absurd rfl (hx j hj)
theorem tx_insert (W : tr_TW c r D nm) (T : xx_t f_used f_root a_names a_values a_parent a_first a_next c r D nm va) {nb a p kk K : Nat} (hnb : nb < 24) (hn1 : ∀ i, i < c → r i ≠ nb) (hn2 : ∀ n, n < nb → ∃ i, i < c ∧ r i = n) (ha : a < 6) (hc24 : c < 24) (hpc : p < c) (hK : tr_Hn c D p K (p + 1)) (hkk : kk ≤ K) {post : Int32 → SX → Prop}
    (hp : ∀ names values parent first next kn, xx_t (nI (c + 1)) f_root names values parent first next (c + 1) (tr_sp (tr_it c D kk (p + 1)) 1 r (fun _ => nb)) (tr_sp (tr_it c D kk (p + 1)) 1 D (fun _ => D p + 1)) (tr_sp (tr_it c D kk (p + 1)) 1 nm (fun _ => a)) (tr_spI (tr_it c D kk (p + 1)) 1 va (fun _ => 0)) → (∀ s, s < 8 → kn s = 0) →
      post (nI nb) (f_root, nI (c + 1), 0, 0, f_put, names, values, parent, first, next, a_place, a_nodeAt, a_end, a_up, a_children, a_above, a_named, a_valueAt, a_kinds, a_vals, a_types, a_behind, a_local, a_length, a_open, a_table, a_results, kn, a_along, a_stack, a_match, a_priority, a_out, a_on, a_matched, a_chosen, a_waiting, a_depths, a_outputs)) :
    wpX_insert post (f_root, f_used, f_counted, f_sorted, f_put, a_names, a_values, a_parent, a_first, a_next, a_place, a_nodeAt, a_end, a_up, a_children, a_above, a_named, a_valueAt, a_kinds, a_vals, a_types, a_behind, a_local, a_length, a_open, a_table, a_results, a_known, a_along, a_stack, a_match, a_priority, a_out, a_on, a_matched, a_chosen, a_waiting, a_depths, a_outputs) (nI (r p)) (nI kk) (nI a) := by
  have hc := W.1
  have hWD := W.2.2.2.1
  have hKl := tr_Hn_le hpc K (p + 1) (tr_Cb_0 hWD hpc) hK
  have hbp := (tr_be_spec (D := D) hpc).2.1
  have hroot : f_root = nI (r 0) := by rw [T.2.1, if_neg (by omega)]
  have hr0 := W.2.1 0 (by omega)
  have hrt : ¬ f_root < 0 := by rw [hroot]; exact nI_pos (by omega)
  have S : tr_SP c (tr_it c D kk (p + 1)) 1 p D (fun _ => D p + 1) := tr_SP_new hWD hpc hK hkk (by omega) rfl (fun j h1 h2 => by omega) (fun j h => by omega)
  have L := T.2.2.2.1
  have go : ∃ n51, wX_insert_51 post (nI (r p)) (nI kk) (nI a) f_root f_used f_counted f_sorted f_put a_names a_values a_parent a_first a_next a_place a_nodeAt a_end a_up a_children a_above a_named a_valueAt a_kinds a_vals a_types a_behind a_local a_length a_open a_table a_results a_known a_along a_stack a_match a_priority a_out a_on a_matched a_chosen a_waiting a_depths a_outputs n51 0 := by
    have h : wX_insert_51 post (nI (r p)) (nI kk) (nI a) f_root f_used f_counted f_sorted f_put a_names a_values a_parent a_first a_next a_place a_nodeAt a_end a_up a_children a_above a_named a_valueAt a_kinds a_vals a_types a_behind a_local a_length a_open a_table a_results a_known a_along a_stack a_match a_priority a_out a_on a_matched a_chosen a_waiting a_depths a_outputs (nb + 1) (nI 0) := by
      refine tx_insert51 W T hnb hn1 hn2 ha (fun z => absurd z hrt) (fun _ => ?_) nb 0 (by omega)
      have hfp : upd a_first nb (-1) (r p) = tr_w c D r p (p + 1) := by rw [pk_un (hn1 p hpc), (L p hpc).1, tr_fc_w hWD hpc]
      have hnx : ∀ x, tr_Cb c D p x → x < tr_be c D p → upd a_next nb (-1) (r x) = tr_w c D r p (tr_be c D x) := by
        intro x h1 h2
        rw [pk_un (hn1 x (by omega)), (L x (by omega)).2.1, tr_nx_w hpc h1 h2]
      have B : tr_LB 1 (fun _ => D p + 1) (fun _ => nb) (upd a_first nb (-1)) (upd a_next nb (-1)) a_parent := by
        intro j hj
        refine ⟨?_, fun h => by omega⟩
        rw [pk_us]
        unfold tr_fc
        rw [if_neg (by omega)]; rfl
      have L0 : tr_LK c D r (upd a_first nb (-1)) (upd a_next nb (-1)) a_parent := by
        intro i hi
        rw [pk_un (hn1 i hi), pk_un (hn1 i hi)]
        exact L i hi
      have nm1 : ∀ i, i < c → upd a_names nb (nI a) (r i) = nI (nm i) ∧ upd a_values nb 0 (r i) = va i := by
        intro i hi
        rw [pk_un (hn1 i hi), pk_un (hn1 i hi)]
        exact T.2.2.1 i hi
      have nm2 : ∀ j, j < 1 → upd a_names nb (nI a) nb = nI a ∧ upd a_values nb 0 nb = 0 := fun j _ => ⟨pk_us, pk_us⟩
      have nm3 : ∀ n, n < 24 → (∀ i, i < c → r i ≠ n) → (∀ j, j < 1 → nb ≠ n) → upd a_names nb (nI a) n = -1 := by
        intro n hn h1 h2
        rw [pk_un (fun e => h2 0 (by omega) e.symm)]
        exact T.2.2.2.2 n hn h1
      have inj : ∀ i j, i < c → j < c → r i = r j → i = j := W.2.2.1
      refine tx_link W hpc hnb hK hkk hfp hnx (fun hq => ?_) (fun y hy hv => ?_)
      · unfold wX_insert_142
        refine tx_changed (fun kn hkn => hp _ _ _ _ _ kn (xx_t_sp S hroot nm1 nm2 ?_ nm3) hkn)
        refine tr_relink S L0 B (fun i hi h => ?_) (fun _ => pk_us) (fun j hj => ?_) (fun i hi h => ?_) (fun i hi h => absurd hq (tr_pv_ne hi h)) ?_ (fun j h1 h2 => by omega) (fun i hi => ?_) pk_us (fun j h1 h2 => by omega)
        · rw [pk_un (fun e => h ⟨inj i p hi hpc e, hq⟩)]
        · exact pk_un (fun e => hn1 p hpc e.symm)
        · exact pk_un (hn1 i hi)
        · rw [pk_us, hq]
        · exact pk_un (hn1 i hi)
      · unfold wX_insert_142
        refine tx_changed (fun kn hkn => hp _ _ _ _ _ kn (xx_t_sp S hroot nm1 nm2 ?_ nm3) hkn)
        have hq := tr_pv_ne hy hv
        refine tr_relink S L0 B (fun i hi h => rfl) (fun e => absurd e hq) (fun j hj => rfl) (fun i hi h => ?_) (fun i hi h => ?_) ?_ (fun j h1 h2 => by omega) (fun i hi => ?_) pk_us (fun j h1 h2 => by omega)
        · rw [pk_un (fun e => h (by rw [inj i y hi hy e]; exact hv)), pk_un (hn1 i hi)]
        · rw [tr_pv_uniq hi hy h hv, pk_us]
        · rw [pk_un (fun e => hn1 y hy e.symm), pk_us]
        · exact pk_un (hn1 i hi)
    rw [nI_0] at h
    exact ⟨_, h⟩
  unfold wpX_insert
  refine tx_isName1 ha (br_f (by decide) (br_f ?_ (br_f hrt (tx_isNode1 (u := (f_root, f_used, f_counted, f_sorted, f_put, a_names, a_values, a_parent, a_first, a_next, a_place, a_nodeAt, a_end, a_up, a_children, a_above, a_named, a_valueAt, a_kinds, a_vals, a_types, a_behind, a_local, a_length, a_open, a_table, a_results, a_known, a_along, a_stack, a_match, a_priority, a_out, a_on, a_matched, a_chosen, a_waiting, a_depths, a_outputs)) W T hpc (br_f (by decide) (br_f (nI_pos (by omega)) (tx_many (u := (f_root, f_used, f_counted, f_sorted, f_put, a_names, a_values, a_parent, a_first, a_next, a_place, a_nodeAt, a_end, a_up, a_children, a_above, a_named, a_valueAt, a_kinds, a_vals, a_types, a_behind, a_local, a_length, a_open, a_table, a_results, a_known, a_along, a_stack, a_match, a_priority, a_out, a_on, a_matched, a_chosen, a_waiting, a_depths, a_outputs)) W T hpc hK (br_t (nI_le hkk (by omega)) go))))))))
  rw [T.1]
  exact fun e => by have := (nI_eq (b := 24) (by omega) (by omega)).mp e; omega
theorem tx_insert0 (W : tr_TW 0 r D nm) (T : xx_t f_used f_root a_names a_values a_parent a_first a_next 0 r D nm va) {a : Nat} {x1 x2 : Int32} (ha : a < 6) {post : Int32 → SX → Prop}
    (hp : ∀ names values parent first next kn, xx_t (nI 1) (nI 0) names values parent first next 1 (fun _ => 0) (fun _ => 0) (fun _ => a) (fun _ => 0) → (∀ s, s < 8 → kn s = 0) →
      post (nI 0) (nI 0, nI 1, 0, 0, f_put, names, values, parent, first, next, a_place, a_nodeAt, a_end, a_up, a_children, a_above, a_named, a_valueAt, a_kinds, a_vals, a_types, a_behind, a_local, a_length, a_open, a_table, a_results, kn, a_along, a_stack, a_match, a_priority, a_out, a_on, a_matched, a_chosen, a_waiting, a_depths, a_outputs)) :
    wpX_insert post (f_root, f_used, f_counted, f_sorted, f_put, a_names, a_values, a_parent, a_first, a_next, a_place, a_nodeAt, a_end, a_up, a_children, a_above, a_named, a_valueAt, a_kinds, a_vals, a_types, a_behind, a_local, a_length, a_open, a_table, a_results, a_known, a_along, a_stack, a_match, a_priority, a_out, a_on, a_matched, a_chosen, a_waiting, a_depths, a_outputs) x1 x2 (nI a) := by
  have hrt : f_root < 0 := by rw [T.2.1, if_pos rfl]; decide
  have h : wX_insert_51 post x1 x2 (nI a) f_root f_used f_counted f_sorted f_put a_names a_values a_parent a_first a_next a_place a_nodeAt a_end a_up a_children a_above a_named a_valueAt a_kinds a_vals a_types a_behind a_local a_length a_open a_table a_results a_known a_along a_stack a_match a_priority a_out a_on a_matched a_chosen a_waiting a_depths a_outputs (0 + 1) (nI 0) := by
    refine tx_insert51 (nb := 0) W T (by omega) (fun i hi => by omega) (fun n hn => by omega) ha (fun _ => ?_) (fun z => absurd hrt z) 0 0 (by omega)
    unfold wX_insert_142
    refine tx_changed (fun kn hkn => hp _ _ _ _ _ kn ⟨rfl, rfl, fun i hi => ⟨pk_us, pk_us⟩, fun i hi => ?_, fun n hn h => ?_⟩ hkn)
    · have i0 : i = 0 := by omega
      subst i0
      refine ⟨?_, ?_, ?_⟩
      · rw [pk_us]; unfold tr_fc; rw [if_neg (by omega)]; rfl
      · rw [pk_us]
        unfold tr_nx
        have hb : tr_be 1 (fun _ => 0) 0 = 1 := tr_be_eq ⟨by omega, by omega, fun k a b => by omega, fun z => by omega⟩
        rw [hb, if_neg (by omega)]; rfl
      · rw [pk_us]; rfl
    · have : n ≠ 0 := fun e => h 0 (by omega) e.symm
      rw [pk_un this]
      exact T.2.2.2.2 n hn (fun i hi => by omega)
  rw [nI_0] at h
  unfold wpX_insert
  refine tx_isName1 ha (br_f (by decide) (br_f ?_ (br_t hrt ⟨_, h⟩)))
  rw [T.1]; decide
end
section
variable {c : Nat} {r D nm : Nat → Nat} {va : Nat → Int32} {g_count g_top g_listed g_outputs : Int32} {b_row b_depth b_name b_value b_moved b_kind b_with b_length b_sets b_fresh b_type b_number b_set b_list b_there b_match b_priority b_out b_on b_todo b_within b_output : Nat → Int32}
theorem ty_insert80 (W : tr_TW c r D nm) (T : yy_t g_count b_row b_depth b_name b_value c r D nm va) {nb q dd a : Nat} (hnb : nb < 24) (hn1 : ∀ i, i < c → r i ≠ nb) (hn2 : ∀ n, n < nb → ∃ i, i < c ∧ r i = n) (hc24 : c < 24) (hq : q ≤ c) {post : Int32 → SY → Prop}
    (hp : ∀ row kn, (∀ k, k < c + 1 → row k = nI (tr_sp q 1 r (fun _ => nb) k)) → (∀ s, s < 8 → kn s = 0) → post (nI nb) (nI (c + 1), g_top, g_listed, g_outputs, row, upd b_depth nb (nI dd), upd b_name nb (nI a), upd b_value nb 0, b_moved, b_kind, b_with, b_length, b_sets, kn, b_type, b_number, b_set, b_list, b_there, b_match, b_priority, b_out, b_on, b_todo, b_within, b_output)) :
    ∃ n80, wY_insert_80 post (nI a) (nI q) (nI dd) g_count g_top g_listed g_outputs b_row b_depth b_name b_value b_moved b_kind b_with b_length b_sets b_fresh b_type b_number b_set b_list b_there b_match b_priority b_out b_on b_todo b_within b_output n80 0 := by
  have hc := W.1
  have TT : yy_T (g_count, g_top, g_listed, g_outputs, b_row, b_depth, b_name, b_value, b_moved, b_kind, b_with, b_length, b_sets, b_fresh, b_type, b_number, b_set, b_list, b_there, b_match, b_priority, b_out, b_on, b_todo, b_within, b_output) c r D nm va := T
  have L101 : ∀ d k row, q + d = k → k ≤ c → (∀ i, i < k → row i = b_row i) → (∀ i, k < i → i ≤ c → row i = b_row (i - 1)) → wY_insert_101 post (nI a) (nI q) (nI dd) (nI nb) g_count g_top g_listed g_outputs (d + 1) (nI k) row b_depth b_name b_value b_moved b_kind b_with b_length b_sets b_fresh b_type b_number b_set b_list b_there b_match b_priority b_out b_on b_todo b_within b_output := by
    intro d
    induction d with
    | zero =>
      intro k row hk hkc h1 h2
      have e : k = q := by omega
      subst e
      have vb := pk_in nb 24 hnb (hN := by omega)
      have ec : g_count + 1 = nI (c + 1) := by rw [T.1]; exact nI_1 c
      refine pk_le k k (fun _ => ⟨pk_in k 24 (by omega), nm_r (up_cl (by omega) rfl) (nm_r ec ⟨vb, nm_r (up_cl (by omega) rfl) ⟨vb, nm_r (up_cl (by omega) rfl) ⟨vb, nm_r (up_cl (by omega) rfl) (ty_changed (fun kn hkn => hp _ kn (fun i hi => ?_) hkn))⟩⟩⟩)⟩) (fun z => by omega)
      rcases Nat.lt_trichotomy i k with z | z | z
      · rw [pk_un (by omega), tr_sp_lo z, h1 i z]; exact (T.2 i (by omega)).1
      · rw [z, pk_us, tr_sp_q (by omega)]
      · rw [pk_un (by omega), tr_sp_hi' (by omega), h2 i z (by omega)]; exact (T.2 (i - 1) (by omega)).1
    | succ d ih =>
      intro k row hk hkc h1 h2
      obtain ⟨j, rfl⟩ : ∃ j, k = j + 1 := ⟨k - 1, by omega⟩
      have e1 : nI (j + 1) - 1 = nI j := nI_pred j
      have er : row (nI (j + 1) - 1).toNatClampNeg = b_row j := by rw [cl_n e1 (by omega)]; exact h1 j (by omega)
      refine pk_le (j + 1) q (fun z => by omega) (fun _ => ⟨pk_in j 24 (by omega) e1, pk_in (j + 1) 24 (by omega), nm_r (up_cl (by omega) er) (nm_r (pk_m1 j) (ih j _ (by omega) (by omega) (fun i hi => ?_) (fun i h3 h4 => ?_)))⟩)
      · rw [pk_un (by omega)]; exact h1 i (by omega)
      · by_cases e : i = j + 1
        · rw [e, pk_us]; rfl
        · rw [pk_un e]; exact h2 i (by omega) h4
  have loop : ∀ d j, j + d = nb → wY_insert_80 post (nI a) (nI q) (nI dd) g_count g_top g_listed g_outputs b_row b_depth b_name b_value b_moved b_kind b_with b_length b_sets b_fresh b_type b_number b_set b_list b_there b_match b_priority b_out b_on b_todo b_within b_output (d + 1) (nI j) := by
    intro d
    induction d with
    | zero =>
      intro j hj
      have e : j = nb := by omega
      subst e
      have h101 := L101 (c - q) c b_row (by omega) (by omega) (fun i _ => rfl) (fun i h1 h2 => by omega)
      have ec : g_count = nI c := T.1
      rw [← ec] at h101
      refine ty_where0 (v := (g_count, g_top, g_listed, g_outputs, b_row, b_depth, b_name, b_value, b_moved, b_kind, b_with, b_length, b_sets, b_fresh, b_type, b_number, b_set, b_list, b_there, b_match, b_priority, b_out, b_on, b_todo, b_within, b_output)) W TT (fun i hi e => hn1 i hi ?_) (br_t (by decide) ⟨_, h101⟩)
      have := W.2.1 i hi
      exact ((nI_eq (by omega) (by omega)).mp e).symm
    | succ d ih =>
      intro j hj
      obtain ⟨i, hi, hri⟩ := hn2 j (by omega)
      subst hri
      exact ty_where1 (v := (g_count, g_top, g_listed, g_outputs, b_row, b_depth, b_name, b_value, b_moved, b_kind, b_with, b_length, b_sets, b_fresh, b_type, b_number, b_set, b_list, b_there, b_match, b_priority, b_out, b_on, b_todo, b_within, b_output)) W TT hi (br_f (nI_pos (by omega)) (nm_r (nI_1 _) (ih (r i + 1) (by omega))))
  have h := loop nb 0 (by omega)
  rw [nI_0] at h
  exact ⟨_, h⟩
theorem ty_insert (W : tr_TW c r D nm) (T : yy_t g_count b_row b_depth b_name b_value c r D nm va) {nb a p kk K : Nat} (hnb : nb < 24) (hn1 : ∀ i, i < c → r i ≠ nb) (hn2 : ∀ n, n < nb → ∃ i, i < c ∧ r i = n) (ha : a < 6) (hc24 : c < 24) (hpc : p < c) (hK : tr_Hn c D p K (p + 1)) (hkk : kk ≤ K) {post : Int32 → SY → Prop}
    (hp : ∀ row depth name value kn, yy_t (nI (c + 1)) row depth name value (c + 1) (tr_sp (tr_it c D kk (p + 1)) 1 r (fun _ => nb)) (tr_sp (tr_it c D kk (p + 1)) 1 D (fun _ => D p + 1)) (tr_sp (tr_it c D kk (p + 1)) 1 nm (fun _ => a)) (tr_spI (tr_it c D kk (p + 1)) 1 va (fun _ => 0)) → (∀ s, s < 8 → kn s = 0) →
      post (nI nb) (nI (c + 1), g_top, g_listed, g_outputs, row, depth, name, value, b_moved, b_kind, b_with, b_length, b_sets, kn, b_type, b_number, b_set, b_list, b_there, b_match, b_priority, b_out, b_on, b_todo, b_within, b_output)) :
    wpY_insert post (g_count, g_top, g_listed, g_outputs, b_row, b_depth, b_name, b_value, b_moved, b_kind, b_with, b_length, b_sets, b_fresh, b_type, b_number, b_set, b_list, b_there, b_match, b_priority, b_out, b_on, b_todo, b_within, b_output) (nI (r p)) (nI kk) (nI a) := by
  have hc := W.1
  have hWD := W.2.2.2.1
  have TT : yy_T (g_count, g_top, g_listed, g_outputs, b_row, b_depth, b_name, b_value, b_moved, b_kind, b_with, b_length, b_sets, b_fresh, b_type, b_number, b_set, b_list, b_there, b_match, b_priority, b_out, b_on, b_todo, b_within, b_output) c r D nm va := T
  have hrp := W.2.1 p hpc
  have hKl := tr_Hn_le hpc K (p + 1) (tr_Cb_0 hWD hpc) hK
  have hbp := (tr_be_spec (D := D) hpc).2.1
  have hq : tr_it c D kk (p + 1) ≤ c := by have := (tr_it_Cb hpc kk K (p + 1) (tr_Cb_0 hWD hpc) hK hkk).1.2.1; omega
  have hD := tr_TWD W hpc
  have hcnt : g_count = nI c := T.1
  unfold wpY_insert
  refine ty_inN (a := 0) (b := 5) (by omega) (by omega) (by omega) (fun _ => br_f (by decide) (br_f ?_ (br_f ?_ (ty_where1 (v := (g_count, g_top, g_listed, g_outputs, b_row, b_depth, b_name, b_value, b_moved, b_kind, b_with, b_length, b_sets, b_fresh, b_type, b_number, b_set, b_list, b_there, b_match, b_priority, b_out, b_on, b_todo, b_within, b_output)) W TT hpc (br_f (nI_pos (by omega)) (br_t (nI_pos' (by omega)) (ty_place (v := (g_count, g_top, g_listed, g_outputs, b_row, b_depth, b_name, b_value, b_moved, b_kind, b_with, b_length, b_sets, b_fresh, b_type, b_number, b_set, b_list, b_there, b_match, b_priority, b_out, b_on, b_todo, b_within, b_output)) W TT hpc (by omega) hK (fun _ => br_t (nI_pos' (by omega)) ⟨pk_in (r p) 24 hrp, nm_r (e' := nI (D p + 1)) ?_ ?_⟩) (fun z => by omega)))))))) (fun z => by omega)
  · rw [hcnt]
    exact fun e => by have := (nI_eq (b := 24) (by omega) (by omega)).mp e; omega
  · rw [hcnt]; exact nI_nle (by omega) (by omega)
  · rw [nI_clamp (by omega), (T.2 p hpc).2.1]; exact nI_1 _
  · refine ty_insert80 W T hnb hn1 hn2 hc24 hq (fun row kn h1 hkn => hp row _ _ _ kn (yy_t_sp (E := fun _ => D p + 1) (bn := fun _ => a) (bv := fun _ => 0) hq h1 (fun i hi => ?_) (fun j hj => ⟨pk_us, pk_us, pk_us⟩)) hkn)
    rw [pk_un (hn1 i hi), pk_un (hn1 i hi), pk_un (hn1 i hi)]
    exact (T.2 i hi).2
theorem ty_insert0 (W : tr_TW 0 r D nm) (T : yy_t g_count b_row b_depth b_name b_value 0 r D nm va) {a : Nat} {x1 x2 : Int32} (ha : a < 6) {post : Int32 → SY → Prop}
    (hp : ∀ row depth name value kn, yy_t (nI 1) row depth name value 1 (fun _ => 0) (fun _ => 0) (fun _ => a) (fun _ => 0) → (∀ s, s < 8 → kn s = 0) → post (nI 0) (nI 1, g_top, g_listed, g_outputs, row, depth, name, value, b_moved, b_kind, b_with, b_length, b_sets, kn, b_type, b_number, b_set, b_list, b_there, b_match, b_priority, b_out, b_on, b_todo, b_within, b_output)) :
    wpY_insert post (g_count, g_top, g_listed, g_outputs, b_row, b_depth, b_name, b_value, b_moved, b_kind, b_with, b_length, b_sets, b_fresh, b_type, b_number, b_set, b_list, b_there, b_match, b_priority, b_out, b_on, b_todo, b_within, b_output) x1 x2 (nI a) := by
  have hcnt : g_count = nI 0 := T.1
  unfold wpY_insert
  refine ty_inN (a := 0) (b := 5) (by omega) (by omega) (by omega) (fun _ => br_f (by decide) (br_f (by rw [hcnt]; decide) (br_t (by rw [hcnt]; decide) ?_))) (fun z => by omega)
  refine ty_insert80 (nb := 0) (q := 0) (dd := 0) W T (by omega) (fun i hi => by omega) (fun n hn => by omega) (by omega) (by omega) (fun row kn h1 hkn => hp row _ _ _ kn ⟨rfl, fun i hi => ?_⟩ hkn)
  have i0 : i = 0 := by omega
  subst i0
  refine ⟨?_, pk_us, pk_us, pk_us⟩
  rw [h1 0 (by omega), tr_sp_q (by omega)]
end
end
section
/-! ===== a block taken out; remove ===== -/
def tr_cutI (a m : Nat) (f : Nat → Int32) : Nat → Int32 := fun i => if i < a then f i else f (i + m)
theorem tr_cutI_sh {a m i : Nat} {f : Nat → Int32} : f (tr_sh a m i) = tr_cutI a m f i := by
  unfold tr_sh tr_cutI
  by_cases h : i < a
  · rw [if_pos h, if_pos h]
  · rw [if_neg h, if_neg h]
theorem tr_cutI_sp (a m : Nat) (f : Nat → Int32) : tr_spI a m (tr_cutI a m f) (fun j => f (a + j)) = f := by
  funext i
  unfold tr_spI tr_cutI
  rcases Nat.lt_or_ge i a with h | h
  · rw [if_pos h, if_pos h]
  · rw [if_neg (by omega)]
    rcases Nat.lt_or_ge i (a + m) with k | k
    · rw [if_pos k]; show f (a + (i - a)) = f i; congr 1; omega
    · rw [if_neg (by omega), if_neg (by omega)]; congr 1; omega
section
variable {c a p : Nat} {r D nm : Nat → Nat} {va : Nat → Int32}
theorem tr_sh_lt {m i : Nat} (hi : i < c - m) (hm : m ≤ c) : tr_sh a m i < c := by
  unfold tr_sh
  by_cases z : i < a
  · rw [if_pos z]; omega
  · rw [if_neg z]; omega
theorem tr_TW_cut (W : tr_TW c r D nm) (ha : a < c) (hp : tr_Pa D a p) : tr_TW (c - (tr_be c D a - a)) (tr_cut a (tr_be c D a - a) r) (tr_cut a (tr_be c D a - a) D) (tr_cut a (tr_be c D a - a) nm) := by
  have S := tr_dec W.2.2.2.1 ha hp
  obtain ⟨hb1, hb2, hb3, hb4⟩ := tr_be_spec (D := D) ha
  have hm : tr_be c D a - a ≤ c := by omega
  have hc := W.1
  refine ⟨by omega, fun i hi => ?_, fun i j hi hj e => ?_, S.1, fun i hi => ?_⟩
  · rw [← tr_cut_sh]; exact W.2.1 _ (tr_sh_lt hi hm)
  · rw [← tr_cut_sh, ← tr_cut_sh] at e
    exact tr_sh_inj (W.2.2.1 _ _ (tr_sh_lt hi hm) (tr_sh_lt hj hm) e)
  · rw [← tr_cut_sh]; exact W.2.2.2.2 _ (tr_sh_lt hi hm)
/-- what stands just ahead of a block stands there without it too -/
theorem tr_pv_cut (W : tr_W c D) (ha : a < c) (hp : tr_Pa D a p) {y : Nat} (hy : y < c) (h : tr_pv c D p a y) : y < a ∧ y < c - (tr_be c D a - a) ∧ tr_pv (c - (tr_be c D a - a)) (tr_cut a (tr_be c D a - a) D) p a y := by
  have S := tr_dec W ha hp
  obtain ⟨hb1, hb2, hb3, hb4⟩ := tr_be_spec (D := D) ha
  obtain ⟨h1, h2, h3⟩ := h
  have hya : y < a := by have := (tr_be_spec (D := D) hy).1; omega
  have hpa := hp.1
  refine ⟨hya, by omega, h1, by rw [tr_cut_lo hya, tr_cut_lo hpa]; exact h2, ?_⟩
  generalize hm : tr_be c D a - a = m at *
  have ec : c - m + m = c := by omega
  have eD : tr_sp a m (tr_cut a m D) (fun j => D (a + j)) = D := tr_cut_sp a m D
  rcases Nat.lt_or_ge (tr_be (c - m) (tr_cut a m D) y) a with z | z
  · have := tr_SP_be1 S hya z
    rw [ec, eD] at this
    omega
  · exact tr_SP_beq S hya z (by rw [tr_cut_lo hya, tr_cut_lo hpa]; omega)
theorem tr_unlinkA (W : tr_TW c r D nm) (ha : a < c) (hp : tr_Pa D a p) {fi ne pa : Nat → Int32} (L : tr_LK c D r fi ne pa) (hq : a = p + 1) :
    tr_LK (c - (tr_be c D a - a)) (tr_cut a (tr_be c D a - a) D) (tr_cut a (tr_be c D a - a) r) (upd fi (r p) (ne (r a))) ne pa ∧ tr_LB (tr_be c D a - a) (fun j => D (a + j)) (fun j => r (a + j)) (upd fi (r p) (ne (r a))) ne pa := by
  have S := tr_dec W.2.2.2.1 ha hp
  obtain ⟨hb1, hb2, hb3, hb4⟩ := tr_be_spec (D := D) ha
  have hm : tr_be c D a - a ≤ c := by omega
  have ec : c - (tr_be c D a - a) + (tr_be c D a - a) = c := by omega
  have W0 := tr_TW_cut W ha hp
  have hpa := hp.1
  have L' : tr_LK (c - (tr_be c D a - a) + (tr_be c D a - a)) (tr_sp a (tr_be c D a - a) (tr_cut a (tr_be c D a - a) D) (fun j => D (a + j))) (tr_sp a (tr_be c D a - a) (tr_cut a (tr_be c D a - a) r) (fun j => r (a + j))) fi ne pa := by
    rw [ec, tr_cut_sp, tr_cut_sp]; exact L
  have erp : tr_cut a (tr_be c D a - a) r p = r p := tr_cut_lo hpa
  constructor
  · refine tr_unlink S L' (fun i hi h => ?_) (fun _ => ?_) (fun i hi h => rfl) (fun i hi h => absurd hq (tr_pv_ne hi h))
    · rw [← erp]
      exact pk_un (fun e => h ⟨W0.2.2.1 i p hi (by omega) e, hq⟩)
    · rw [erp, pk_us]; rfl
  · intro j hj
    have B := tr_unlinkB S L' j hj
    have : r (a + j) ≠ r p := fun e => by have := W.2.2.1 _ _ (by omega) (by omega) e; omega
    show upd fi (r p) (ne (r a)) (r (a + j)) = _ ∧ _
    rw [pk_un this]
    exact B
theorem tr_unlinkY (W : tr_TW c r D nm) (ha : a < c) (hp : tr_Pa D a p) {fi ne pa : Nat → Int32} (L : tr_LK c D r fi ne pa) {y : Nat} (hy : y < c) (hv : tr_pv c D p a y) :
    tr_LK (c - (tr_be c D a - a)) (tr_cut a (tr_be c D a - a) D) (tr_cut a (tr_be c D a - a) r) fi (upd ne (r y) (ne (r a))) pa ∧ tr_LB (tr_be c D a - a) (fun j => D (a + j)) (fun j => r (a + j)) fi (upd ne (r y) (ne (r a))) pa := by
  have S := tr_dec W.2.2.2.1 ha hp
  obtain ⟨hb1, hb2, hb3, hb4⟩ := tr_be_spec (D := D) ha
  have hm : tr_be c D a - a ≤ c := by omega
  have ec : c - (tr_be c D a - a) + (tr_be c D a - a) = c := by omega
  have W0 := tr_TW_cut W ha hp
  obtain ⟨hya, hy0, hv0⟩ := tr_pv_cut W.2.2.2.1 ha hp hy hv
  have L' : tr_LK (c - (tr_be c D a - a) + (tr_be c D a - a)) (tr_sp a (tr_be c D a - a) (tr_cut a (tr_be c D a - a) D) (fun j => D (a + j))) (tr_sp a (tr_be c D a - a) (tr_cut a (tr_be c D a - a) r) (fun j => r (a + j))) fi ne pa := by
    rw [ec, tr_cut_sp, tr_cut_sp]; exact L
  have ery : tr_cut a (tr_be c D a - a) r y = r y := tr_cut_lo hya
  constructor
  · refine tr_unlink S L' (fun i hi h => rfl) (fun e => absurd e (tr_pv_ne hy hv)) (fun i hi h => ?_) (fun i hi h => ?_)
    · rw [← ery]
      exact pk_un (fun e => h (by rw [W0.2.2.1 i y hi hy0 e]; exact hv0))
    · rw [tr_pv_uniq hi hy0 h hv0, ery, pk_us]; rfl
  · intro j hj
    obtain ⟨B1, B2⟩ := tr_unlinkB S L' j hj
    have : r (a + j) ≠ r y := fun e => by have := W.2.2.1 _ _ (by omega) (by omega) e; omega
    refine ⟨B1, fun h0 => ?_⟩
    show upd ne (r y) (ne (r a)) (r (a + j)) = _ ∧ _
    rw [pk_un this]
    exact B2 h0
end
section
variable {c : Nat} {r D nm : Nat → Nat} {va : Nat → Int32} {f_root f_used f_counted f_sorted f_put : Int32} {a_names a_values a_parent a_first a_next a_place a_nodeAt a_end a_up a_children a_above a_named a_valueAt a_kinds a_vals a_types a_behind a_local a_length a_open a_table a_results a_known a_along a_stack a_match a_priority a_out a_on a_matched a_chosen a_waiting a_depths a_outputs : Nat → Int32}
theorem tx_rem52 (W : tr_TW c r D nm) (hu : f_used = nI c) (hna : ∀ i, i < c → a_nodeAt i = nI (r i)) {a e : Nat} (hae : a < e) (hec : e ≤ c) {post : Int32 → SX → Prop}
    (hp : ∀ nz kn, (∀ j, a ≤ j → j < e → nz (r j) = -1) → (∀ n, (∀ j, a ≤ j → j < e → r j ≠ n) → nz n = a_names n) → (∀ s, s < 8 → kn s = 0) → post (nI (e - a)) (f_root, nI (c - (e - a)), 0, 0, f_put, nz, a_values, a_parent, a_first, a_next, a_place, a_nodeAt, a_end, a_up, a_children, a_above, a_named, a_valueAt, a_kinds, a_vals, a_types, a_behind, a_local, a_length, a_open, a_table, a_results, kn, a_along, a_stack, a_match, a_priority, a_out, a_on, a_matched, a_chosen, a_waiting, a_depths, a_outputs)) :
    ∀ d j nz, j + d = e → a ≤ j → (∀ i, a ≤ i → i < j → nz (r i) = -1) → (∀ n, (∀ i, a ≤ i → i < j → r i ≠ n) → nz n = a_names n) → wX_remove_52 post (nI a) (nI (e - 1)) f_root f_used f_counted f_sorted f_put (d + 1) (nI j) nz a_values a_parent a_first a_next a_place a_nodeAt a_end a_up a_children a_above a_named a_valueAt a_kinds a_vals a_types a_behind a_local a_length a_open a_table a_results a_known a_along a_stack a_match a_priority a_out a_on a_matched a_chosen a_waiting a_depths a_outputs := by
  have hc := W.1
  intro d
  induction d with
  | zero =>
    intro j nz hj haj h1 h2
    have ej : j = e := by omega
    subst ej
    have em : nI (j - 1) - nI a + 1 = nI (j - a) := by
      rw [pk_sub (by omega), nI_1]; congr 1; omega
    have eu : f_used - (nI (j - 1) - nI a + 1) = nI (c - (j - a)) := by rw [em, hu]; exact pk_sub (by omega)
    refine pk_lt (j - 1) j (fun _ => nm_r eu (tx_changed (fun kn hkn => ?_))) (fun z => by omega)
    have := hp nz kn h1 h2 hkn
    rw [← em] at this
    exact this
  | succ d ih =>
    intro j nz hj haj h1 h2
    have hrj := W.2.1 j (by omega)
    have en : a_nodeAt (nI j).toNatClampNeg = nI (r j) := by rw [nI_clamp (by omega)]; exact hna j (by omega)
    refine pk_lt (e - 1) j (fun z => by omega) (fun _ => ⟨pk_in j 24 (by omega), pk_in (r j) 24 hrj en, nm_r (up_n en (by omega) bs_nb1) (nm_r (nI_1 j) (ih (j + 1) _ (by omega) (by omega) (fun i x1 x2 => ?_) (fun n hn => ?_)))⟩)
    · by_cases z : i = j
      · rw [z, pk_us]
      · rw [pk_un (fun w => z (W.2.2.1 i j (by omega) (by omega) w))]; exact h1 i x1 (by omega)
    · rw [pk_un (fun w => hn j haj (by omega) w.symm)]
      exact h2 n (fun i x1 x2 => hn i x1 (by omega))
/-- the tree without what is below place a (a = 0: nothing is left) -/
def tr_rem (c a : Nat) (D f : Nat → Nat) : Nat → Nat := tr_cut a (tr_be c D a - a) f
theorem tx_remove (W : tr_TW c r D nm) (T : xx_t f_used f_root a_names a_values a_parent a_first a_next c r D nm va)
    (hC : f_counted ≠ 0 → xx_ct c r D nm va a_place a_nodeAt a_end a_up a_children a_above a_named a_valueAt) {a : Nat} (ha : a < c) {post : Int32 → SX → Prop}
    (hp : ∀ root names first next kn place nodeAt en up ch ab nd vv, xx_t (nI (c - (tr_be c D a - a))) root names a_values a_parent first next (c - (tr_be c D a - a)) (tr_rem c a D r) (tr_rem c a D D) (tr_rem c a D nm) (tr_cutI a (tr_be c D a - a) va) → (∀ s, s < 8 → kn s = 0) →
      post (nI (tr_be c D a - a)) (root, nI (c - (tr_be c D a - a)), 0, 0, f_put, names, a_values, a_parent, first, next, place, nodeAt, en, up, ch, ab, nd, vv, a_kinds, a_vals, a_types, a_behind, a_local, a_length, a_open, a_table, a_results, kn, a_along, a_stack, a_match, a_priority, a_out, a_on, a_matched, a_chosen, a_waiting, a_depths, a_outputs)) :
    wpX_remove post (f_root, f_used, f_counted, f_sorted, f_put, a_names, a_values, a_parent, a_first, a_next, a_place, a_nodeAt, a_end, a_up, a_children, a_above, a_named, a_valueAt, a_kinds, a_vals, a_types, a_behind, a_local, a_length, a_open, a_table, a_results, a_known, a_along, a_stack, a_match, a_priority, a_out, a_on, a_matched, a_chosen, a_waiting, a_depths, a_outputs) (nI (r a)) := by
  have hc := W.1
  have hra := W.2.1 a ha
  obtain ⟨b1, b2, b3, b4⟩ := tr_be_spec (D := D) ha
  have L := T.2.2.2.1
  unfold wpX_remove
  refine tx_isNode1 (u := (f_root, f_used, f_counted, f_sorted, f_put, a_names, a_values, a_parent, a_first, a_next, a_place, a_nodeAt, a_end, a_up, a_children, a_above, a_named, a_valueAt, a_kinds, a_vals, a_types, a_behind, a_local, a_length, a_open, a_table, a_results, a_known, a_along, a_stack, a_match, a_priority, a_out, a_on, a_matched, a_chosen, a_waiting, a_depths, a_outputs)) W T ha (br_f (by decide) (tx_count W T hC (fun f_counted' a_place' a_nodeAt' a_end' a_up' a_children' a_above' a_named' a_valueAt' hcn CT => ?_)))
  have epl : a_place' (nI (r a)).toNatClampNeg = nI a := by rw [nI_clamp (by omega)]; exact (CT.1 a ha).1
  have een : a_end' (nI a).toNatClampNeg = nI (tr_be c D a - 1) := by rw [nI_clamp (by omega)]; exact (CT.1 a ha).2.2.1
  have hna : ∀ i, i < c → a_nodeAt' i = nI (r i) := fun i hi => (CT.1 i hi).2.1
  have hu := T.1
  have hroot : f_root = nI (r 0) := by rw [T.2.1, if_neg (by omega)]
  have hr0 := W.2.1 0 (by omega)
  refine ⟨pk_in (r a) 24 hra, nm_r epl ⟨pk_in a 24 (by omega), nm_r een ?_⟩⟩
  rcases Nat.eq_zero_or_pos a with z | z
  · subst z
    have hbc : tr_be c D 0 = c := by
      rcases Nat.lt_or_ge (tr_be c D 0) c with y | y
      · have := b4 y
        have := tr_W_pos W.2.2.2.1 (i := tr_be c D 0) (by omega) y
        have := W.2.2.2.1.1 ha
        omega
      · omega
    refine br_t hroot.symm ?_
    refine ⟨_, tx_rem52 (f_root := -1) W hu hna b1 b2 (fun nz kn n1 n2 hkn => hp (-1) nz _ _ kn _ _ _ _ _ _ _ _ ?_ hkn) (tr_be c D 0 - 0) 0 a_names (by omega) (by omega) (fun i x1 x2 => by omega) (fun n _ => rfl)⟩
    have e0 : c - (tr_be c D 0 - 0) = 0 := by omega
    rw [e0]
    refine ⟨rfl, rfl, fun i hi => by omega, fun i hi => by omega, fun n hn _ => ?_⟩
    by_cases y : ∃ j, j < c ∧ r j = n
    · obtain ⟨j, y1, y2⟩ := y
      rw [← y2]; exact n1 j (by omega) (by omega)
    · rw [n2 n (fun j _ x2 e => y ⟨j, by omega, e⟩)]
      exact T.2.2.2.2 n hn (fun i hi e => y ⟨i, hi, e⟩)
  · obtain ⟨p, epr, hpa⟩ := tr_pr_ex W.2.2.2.1 z ha
    have hne : ¬ nI (r a) = f_root := by
      rw [hroot]
      exact fun e => by have := W.2.2.1 a 0 ha (by omega) ((nI_eq (by omega) (by omega)).mp e); omega
    have nm1 : ∀ (nz : Nat → Int32), (∀ n, (∀ j, a ≤ j → j < tr_be c D a → r j ≠ n) → nz n = a_names n) → ∀ i, i < c - (tr_be c D a - a) → nz (tr_rem c a D r i) = nI (tr_rem c a D nm i) ∧ a_values (tr_rem c a D r i) = tr_cutI a (tr_be c D a - a) va i := by
      intro nz h i hi
      unfold tr_rem
      rw [← tr_cut_sh, ← tr_cut_sh, ← tr_cutI_sh]
      have hlt := tr_sh_lt (a := a) hi (by omega)
      have := T.2.2.1 _ hlt
      refine ⟨?_, this.2⟩
      rw [h _ (fun j x1 x2 e => ?_)]
      · exact this.1
      · have e2 := W.2.2.1 _ _ (by omega) hlt e
        unfold tr_sh at e2
        by_cases y : i < a
        · rw [if_pos y] at e2; omega
        · rw [if_neg y] at e2; omega
    have nm2 : ∀ (nz : Nat → Int32), (∀ j, a ≤ j → j < tr_be c D a → nz (r j) = -1) → (∀ n, (∀ j, a ≤ j → j < tr_be c D a → r j ≠ n) → nz n = a_names n) → ∀ n, n < 24 → (∀ i, i < c - (tr_be c D a - a) → tr_rem c a D r i ≠ n) → nz n = -1 := by
      intro nz h1 h2 n hn h
      by_cases y : ∃ j, a ≤ j ∧ j < tr_be c D a ∧ r j = n
      · obtain ⟨j, y1, y2, y3⟩ := y
        rw [← y3]; exact h1 j y1 y2
      · rw [h2 n (fun j x1 x2 e => y ⟨j, x1, x2, e⟩)]
        refine T.2.2.2.2 n hn (fun i hi e => ?_)
        rcases Nat.lt_or_ge i a with w | w
        · refine h i (by omega) ?_
          unfold tr_rem
          rw [tr_cut_lo w]; exact e
        · rcases Nat.lt_or_ge i (tr_be c D a) with v | v
          · exact y ⟨i, w, v, e⟩
          · refine h (i - (tr_be c D a - a)) (by omega) ?_
            unfold tr_rem
            rw [tr_cut_hi (by omega), show i - (tr_be c D a - a) + (tr_be c D a - a) = i by omega]; exact e
    have hrt : f_root = if c - (tr_be c D a - a) = 0 then -1 else nI (tr_rem c a D r 0) := by
      rw [if_neg (by omega)]
      unfold tr_rem
      rw [tr_cut_lo z]; exact hroot
    refine br_f hne (tx_unlink W L hpa ha (fun hq => ?_) (fun y hy hv => ?_))
    · exact ⟨_, tx_rem52 W hu hna b1 b2 (fun nz kn n1 n2 hkn => hp f_root nz _ _ kn _ _ _ _ _ _ _ _ ⟨rfl, hrt, nm1 nz n2, (tr_unlinkA W ha hpa L hq).1, nm2 nz n1 n2⟩ hkn) (tr_be c D a - a) a a_names (by omega) (by omega) (fun i x1 x2 => by omega) (fun n _ => rfl)⟩
    · exact ⟨_, tx_rem52 W hu hna b1 b2 (fun nz kn n1 n2 hkn => hp f_root nz _ _ kn _ _ _ _ _ _ _ _ ⟨rfl, hrt, nm1 nz n2, (tr_unlinkY W ha hpa L hy hv).1, nm2 nz n1 n2⟩ hkn) (tr_be c D a - a) a a_names (by omega) (by omega) (fun i x1 x2 => by omega) (fun n _ => rfl)⟩
end
section
variable {c : Nat} {r D nm : Nat → Nat} {va : Nat → Int32} {g_count g_top g_listed g_outputs : Int32} {b_row b_depth b_name b_value b_moved b_kind b_with b_length b_sets b_fresh b_type b_number b_set b_list b_there b_match b_priority b_out b_on b_todo b_within b_output : Nat → Int32}
theorem ty_remove (W : tr_TW c r D nm) (T : yy_t g_count b_row b_depth b_name b_value c r D nm va) {a : Nat} (ha : a < c) {post : Int32 → SY → Prop}
    (hp : ∀ row kn, yy_t (nI (c - (tr_be c D a - a))) row b_depth b_name b_value (c - (tr_be c D a - a)) (tr_rem c a D r) (tr_rem c a D D) (tr_rem c a D nm) (tr_cutI a (tr_be c D a - a) va) → (∀ s, s < 8 → kn s = 0) →
      post (nI (tr_be c D a - a)) (nI (c - (tr_be c D a - a)), g_top, g_listed, g_outputs, row, b_depth, b_name, b_value, b_moved, b_kind, b_with, b_length, b_sets, kn, b_type, b_number, b_set, b_list, b_there, b_match, b_priority, b_out, b_on, b_todo, b_within, b_output)) :
    wpY_remove post (g_count, g_top, g_listed, g_outputs, b_row, b_depth, b_name, b_value, b_moved, b_kind, b_with, b_length, b_sets, b_fresh, b_type, b_number, b_set, b_list, b_there, b_match, b_priority, b_out, b_on, b_todo, b_within, b_output) (nI (r a)) := by
  have hc := W.1
  obtain ⟨b1, b2, b3, b4⟩ := tr_be_spec (D := D) ha
  have TT : yy_T (g_count, g_top, g_listed, g_outputs, b_row, b_depth, b_name, b_value, b_moved, b_kind, b_with, b_length, b_sets, b_fresh, b_type, b_number, b_set, b_list, b_there, b_match, b_priority, b_out, b_on, b_todo, b_within, b_output) c r D nm va := T
  have hcnt : g_count = nI c := T.1
  unfold wpY_remove
  refine ty_where1 (v := (g_count, g_top, g_listed, g_outputs, b_row, b_depth, b_name, b_value, b_moved, b_kind, b_with, b_length, b_sets, b_fresh, b_type, b_number, b_set, b_list, b_there, b_match, b_priority, b_out, b_on, b_todo, b_within, b_output)) W TT ha (br_t (nI_pos' (by omega)) (ty_behind (v := (g_count, g_top, g_listed, g_outputs, b_row, b_depth, b_name, b_value, b_moved, b_kind, b_with, b_length, b_sets, b_fresh, b_type, b_number, b_set, b_list, b_there, b_match, b_priority, b_out, b_on, b_todo, b_within, b_output)) W TT ha (nm_r (pk_sub (by omega)) (nm_r (e' := nI (c - (tr_be c D a - a))) (by rw [hcnt]; exact pk_sub (by omega)) ?_))))
  have loop : ∀ d j row, j + d = c - (tr_be c D a - a) → a ≤ j → (∀ i, i < j → row i = nI (tr_rem c a D r i)) → (∀ i, j ≤ i → row i = b_row i) → wY_remove_33 post (nI (tr_be c D a - a)) (nI (c - (tr_be c D a - a))) g_top g_listed g_outputs (d + 1) (nI j) row b_depth b_name b_value b_moved b_kind b_with b_length b_sets b_fresh b_type b_number b_set b_list b_there b_match b_priority b_out b_on b_todo b_within b_output := by
    intro d
    induction d with
    | zero =>
      intro j row hj haj h1 h2
      refine pk_le (c - (tr_be c D a - a)) j (fun _ => ty_changed (fun kn hkn => hp row kn ⟨rfl, fun i hi => ⟨h1 i (by omega), ?_⟩⟩ hkn)) (fun z => by omega)
      unfold tr_rem
      rw [← tr_cut_sh, ← tr_cut_sh, ← tr_cut_sh, ← tr_cutI_sh]
      exact (T.2 _ (tr_sh_lt hi (by omega))).2
    | succ d ih =>
      intro j row hj haj h1 h2
      have e1 : nI j + nI (tr_be c D a - a) = nI (j + (tr_be c D a - a)) := nI_add _ _
      have er : row (nI j + nI (tr_be c D a - a)).toNatClampNeg = nI (tr_rem c a D r j) := by
        rw [cl_n e1 (by omega), h2 _ (by omega), (T.2 _ (by omega)).1]
        unfold tr_rem
        rw [tr_cut_hi haj]
      refine pk_le (c - (tr_be c D a - a)) j (fun z => by omega) (fun _ => ⟨pk_in (j + (tr_be c D a - a)) 24 (by omega) e1, pk_in j 24 (by omega), nm_r (up_cl (by omega) er) (nm_r (nI_1 j) (ih (j + 1) _ (by omega) (by omega) (fun i hi => ?_) (fun i hi => ?_)))⟩)
      · by_cases e : i = j
        · rw [e, pk_us]
        · rw [pk_un e]; exact h1 i (by omega)
      · rw [pk_un (by omega)]; exact h2 i (by omega)
  rcases Nat.lt_or_ge (c - (tr_be c D a - a)) a with z | z
  · omega
  · refine ⟨_, loop (c - (tr_be c D a - a) - a) a b_row (by omega) (by omega) (fun i hi => ?_) (fun i _ => rfl)⟩
    unfold tr_rem
    rw [tr_cut_lo hi]; exact (T.2 i (by omega)).1
end
end
section
/-! ===== move ===== -/
theorem i32r (x y z : Int32) : (x + z) + (y - z) = y + x := by grind
section
variable {c a p2 : Nat} {r D nm : Nat → Nat} {va : Nat → Int32}
/-- what both programs need of a move that isn't into the moved part itself -/
theorem tr_mv (W : tr_W c D) (ha : a < c) (hp2 : p2 < c) (hn : ¬ (a ≤ p2 ∧ p2 < tr_be c D a)) :
    0 < a ∧ ∃ p p20 K1 K0, tr_Pa D a p ∧ tr_sh a (tr_be c D a - a) p20 = p2 ∧ p20 < c - (tr_be c D a - a) ∧ tr_Hn c D p2 K1 (p2 + 1) ∧ tr_Hn (c - (tr_be c D a - a)) (tr_cut a (tr_be c D a - a) D) p20 K0 (p20 + 1) ∧ K1 = K0 + (if p2 = p then 1 else 0) := by
  obtain ⟨b1, b2, b3, b4⟩ := tr_be_spec (D := D) ha
  have ha0 : 0 < a := by
    rcases Nat.eq_zero_or_pos a with z | z
    · subst z
      exfalso
      apply hn
      refine ⟨by omega, ?_⟩
      rcases Nat.lt_or_ge (tr_be c D 0) c with y | y
      · have := b4 y
        have := tr_W_pos W (i := tr_be c D 0) (by omega) y
        have := W.1 ha
        omega
      · omega
    · exact z
  obtain ⟨p, epr, hpa⟩ := tr_pr_ex W ha0 ha
  have S := tr_dec W ha hpa
  have hW0 := S.1
  have hpa1 := hpa.1
  obtain ⟨K1, hK1⟩ := tr_Hn_ex hp2 (tr_be c D p2 - (p2 + 1) + 1) (p2 + 1) (by omega) (tr_Cb_0 W hp2)
  have sh : ∃ p20, tr_sh a (tr_be c D a - a) p20 = p2 ∧ p20 < c - (tr_be c D a - a) := by
    rcases Nat.lt_or_ge p2 a with z | z
    · exact ⟨p2, tr_sh_lo z, by omega⟩
    · refine ⟨p2 - (tr_be c D a - a), ?_, by omega⟩
      rw [tr_sh_hi (by omega)]; omega
  obtain ⟨p20, s1, s2⟩ := sh
  obtain ⟨K0, hK0⟩ := tr_Hn_ex (D := tr_cut a (tr_be c D a - a) D) s2 (tr_be (c - (tr_be c D a - a)) (tr_cut a (tr_be c D a - a) D) p20 - (p20 + 1) + 1) (p20 + 1) (by omega) (tr_Cb_0 hW0 s2)
  refine ⟨ha0, p, p20, K1, K0, hpa, s1, s2, hK1, hK0, ?_⟩
  have e1 := tr_Hn_K W hp2 hK1
  have e0 := tr_Hn_K hW0 s2 hK0
  have e := tr_SP_nc S s2
  rw [s1, tr_cut_sp, show c - (tr_be c D a - a) + (tr_be c D a - a) = c by omega, ← e1, ← e0] at e
  rw [e]
  congr 1
  by_cases z : p20 = p
  · rw [if_pos z, if_pos]
    rw [← s1, z, tr_sh_lo hpa1]
  · rw [if_neg z, if_neg]
    intro w
    apply z
    apply tr_sh_inj (q := a) (m := tr_be c D a - a)
    rw [s1, tr_sh_lo hpa1]; exact w
def tr_mE (D : Nat → Nat) (a d : Nat) : Nat → Nat := fun j => d + 1 + (D (a + j) - D a)
theorem tr_mv_SP (W : tr_W c D) (ha : a < c) {p p20 K0 kk : Nat} (hpa : tr_Pa D a p) (s2 : p20 < c - (tr_be c D a - a)) (hK0 : tr_Hn (c - (tr_be c D a - a)) (tr_cut a (tr_be c D a - a) D) p20 K0 (p20 + 1)) (hk : kk ≤ K0) :
    tr_SP (c - (tr_be c D a - a)) (tr_it (c - (tr_be c D a - a)) (tr_cut a (tr_be c D a - a) D) kk (p20 + 1)) (tr_be c D a - a) p20 (tr_cut a (tr_be c D a - a) D) (tr_mE D a (tr_cut a (tr_be c D a - a) D p20)) := by
  obtain ⟨b1, b2, b3, b4⟩ := tr_be_spec (D := D) ha
  have S := tr_dec W ha hpa
  refine tr_SP_new S.1 s2 hK0 hk (by omega) ?_ (fun j x1 x2 => ?_) (fun j x => ?_)
  · show _ + 1 + (D (a + 0) - D a) = _
    rw [show a + 0 = a from rfl]; omega
  · show _ + 1 + (D (a + 0) - D a) < _ + 1 + (D (a + j) - D a)
    have := b3 (a + j) (by omega) (by omega)
    rw [show a + 0 = a from rfl]; omega
  · show _ + 1 + (D (a + (j + 1)) - D a) ≤ _ + 1 + (D (a + j) - D a) + 1
    have := (W.2 (a + j) (by omega)).2
    rw [show a + (j + 1) = a + j + 1 by omega]
    have : D a ≤ D (a + j) := by
      by_cases z : j = 0
      · rw [z]; exact Nat.le_refl _
      · have := b3 (a + j) (by omega) (by omega); omega
    omega
theorem tr_mv_facts (W : tr_TW c r D nm) (ha : a < c) : (∀ i j, i < c - (tr_be c D a - a) → j < tr_be c D a - a → tr_cut a (tr_be c D a - a) r i ≠ r (a + j)) ∧ tr_inj (tr_be c D a - a) (fun j => r (a + j)) ∧ (∀ k, k < c → (∃ i, i < c - (tr_be c D a - a) ∧ r k = tr_cut a (tr_be c D a - a) r i) ∨ ∃ j, j < tr_be c D a - a ∧ r k = r (a + j)) := by
  obtain ⟨b1, b2, b3, b4⟩ := tr_be_spec (D := D) ha
  refine ⟨fun i j hi hj e => ?_, fun i j hi hj e => ?_, fun k hk => ?_⟩
  · rw [← tr_cut_sh] at e
    have := W.2.2.1 _ _ (tr_sh_lt hi (by omega)) (by omega) e
    unfold tr_sh at this
    by_cases z : i < a
    · rw [if_pos z] at this; omega
    · rw [if_neg z] at this; omega
  · have := W.2.2.1 _ _ (by omega) (by omega) e; omega
  · rcases Nat.lt_or_ge k a with z | z
    · exact Or.inl ⟨k, by omega, by rw [tr_cut_lo z]⟩
    · rcases Nat.lt_or_ge k (tr_be c D a) with y | y
      · exact Or.inr ⟨k - a, by omega, by congr 1; omega⟩
      · exact Or.inl ⟨k - (tr_be c D a - a), by omega, by rw [tr_cut_hi (by omega)]; congr 1; omega⟩
end
section
variable {c : Nat} {r D nm : Nat → Nat} {va : Nat → Int32} {f_root f_used f_counted f_sorted f_put : Int32} {a_names a_values a_parent a_first a_next a_place a_nodeAt a_end a_up a_children a_above a_named a_valueAt a_kinds a_vals a_types a_behind a_local a_length a_open a_table a_results a_known a_along a_stack a_match a_priority a_out a_on a_matched a_chosen a_waiting a_depths a_outputs : Nat → Int32}
theorem tx_move_up (W : tr_TW c r D nm) (T : xx_t f_used f_root a_names a_values a_parent a_first a_next c r D nm va) {a : Nat} (ha : a < c) {x2 x3 : Int32} {post : Int32 → SX → Prop} :
    ∀ d q, q ≤ d → q < c → (a ≤ q ∧ q < tr_be c D a → post 0 (f_root, f_used, f_counted, f_sorted, f_put, a_names, a_values, a_parent, a_first, a_next, a_place, a_nodeAt, a_end, a_up, a_children, a_above, a_named, a_valueAt, a_kinds, a_vals, a_types, a_behind, a_local, a_length, a_open, a_table, a_results, a_known, a_along, a_stack, a_match, a_priority, a_out, a_on, a_matched, a_chosen, a_waiting, a_depths, a_outputs)) → (¬ (a ≤ q ∧ q < tr_be c D a) → ∀ n, wX_move_21 post (nI (r a)) x2 x3 f_root f_used f_counted f_sorted f_put a_names a_values a_parent a_first a_next a_place a_nodeAt a_end a_up a_children a_above a_named a_valueAt a_kinds a_vals a_types a_behind a_local a_length a_open a_table a_results a_known a_along a_stack a_match a_priority a_out a_on a_matched a_chosen a_waiting a_depths a_outputs (n + 1) (-1)) → wX_move_21 post (nI (r a)) x2 x3 f_root f_used f_counted f_sorted f_put a_names a_values a_parent a_first a_next a_place a_nodeAt a_end a_up a_children a_above a_named a_valueAt a_kinds a_vals a_types a_behind a_local a_length a_open a_table a_results a_known a_along a_stack a_match a_priority a_out a_on a_matched a_chosen a_waiting a_depths a_outputs (d + 2) (nI (r q)) := by
  have hc := W.1
  have hr := W.2.1
  have hra := hr a ha
  have L := T.2.2.2.1
  obtain ⟨b1, b2, b3, b4⟩ := tr_be_spec (D := D) ha
  intro d
  induction d with
  | zero =>
    intro q hd hq h1 h0
    have q0 : q = 0 := by omega
    subst q0
    have hr0 := hr 0 hq
    refine pk_lt (r 0) 0 (fun z => by omega) (fun _ => pk_eq (r 0) (r a) (fun e => ?_) (fun e => ?_))
    · have := W.2.2.1 0 a hq ha e
      exact h1 ⟨by omega, by omega⟩
    · have ep : a_parent (nI (r 0)).toNatClampNeg = -1 := by rw [nI_clamp (by omega), (L 0 hq).2.2, tr_pr_0]; rfl
      exact ⟨pk_in (r 0) 24 hr0, nm_r ep (h0 (fun w => e (by rw [show a = 0 by omega])) 0)⟩
  | succ d ih =>
    intro q hd hq h1 h0
    have hrq := hr q hq
    refine pk_lt (r q) 0 (fun z => by omega) (fun _ => pk_eq (r q) (r a) (fun e => ?_) (fun e => ⟨pk_in (r q) 24 hrq, ?_⟩))
    · have := W.2.2.1 q a hq ha e
      exact h1 ⟨by omega, by omega⟩
    · have ne : q ≠ a := fun w => e (by rw [w])
      rcases Nat.eq_zero_or_pos q with z | z
      · subst z
        have ep : a_parent (nI (r 0)).toNatClampNeg = -1 := by rw [nI_clamp (by omega), (L 0 hq).2.2, tr_pr_0]; rfl
        exact nm_r ep (h0 (fun w => by omega) (d + 1))
      · obtain ⟨q', e', hpa⟩ := tr_pr_ex W.2.2.2.1 z hq
        have hq' := hpa.1
        have ep : a_parent (nI (r q)).toNatClampNeg = nI (r q') := by rw [nI_clamp (by omega), (L q hq).2.2, e']; rfl
        have iff := tr_above (j := a) W.2.2.2.1 hq hpa
        refine nm_r ep (ih q' (by omega) (by omega) (fun w => h1 ?_) (fun w => h0 (fun y => w ?_)))
        · have : a < q ∧ q < tr_be c D a := iff.mpr (by
            by_cases y : a = q'
            · exact Or.inr y
            · exact Or.inl ⟨by omega, w.2⟩)
          exact ⟨by omega, this.2⟩
        · have := iff.mp ⟨by omega, y.2⟩
          rcases this with v | v
          · exact ⟨by omega, v.2⟩
          · rw [← v]; exact ⟨by omega, b1⟩
theorem tx_move_hit (W : tr_TW c r D nm) (T : xx_t f_used f_root a_names a_values a_parent a_first a_next c r D nm va) {a p2 : Nat} (ha : a < c) (hp2 : p2 < c) (hh : a ≤ p2 ∧ p2 < tr_be c D a) {k : Int32} {post : Int32 → SX → Prop} (hp : post 0 (f_root, f_used, f_counted, f_sorted, f_put, a_names, a_values, a_parent, a_first, a_next, a_place, a_nodeAt, a_end, a_up, a_children, a_above, a_named, a_valueAt, a_kinds, a_vals, a_types, a_behind, a_local, a_length, a_open, a_table, a_results, a_known, a_along, a_stack, a_match, a_priority, a_out, a_on, a_matched, a_chosen, a_waiting, a_depths, a_outputs)) : wpX_move post (f_root, f_used, f_counted, f_sorted, f_put, a_names, a_values, a_parent, a_first, a_next, a_place, a_nodeAt, a_end, a_up, a_children, a_above, a_named, a_valueAt, a_kinds, a_vals, a_types, a_behind, a_local, a_length, a_open, a_table, a_results, a_known, a_along, a_stack, a_match, a_priority, a_out, a_on, a_matched, a_chosen, a_waiting, a_depths, a_outputs) (nI (r a)) (nI (r p2)) k := by
  unfold wpX_move
  exact tx_isNode1 (u := (f_root, f_used, f_counted, f_sorted, f_put, a_names, a_values, a_parent, a_first, a_next, a_place, a_nodeAt, a_end, a_up, a_children, a_above, a_named, a_valueAt, a_kinds, a_vals, a_types, a_behind, a_local, a_length, a_open, a_table, a_results, a_known, a_along, a_stack, a_match, a_priority, a_out, a_on, a_matched, a_chosen, a_waiting, a_depths, a_outputs)) W T ha (br_f (by decide) (tx_isNode1 (u := (f_root, f_used, f_counted, f_sorted, f_put, a_names, a_values, a_parent, a_first, a_next, a_place, a_nodeAt, a_end, a_up, a_children, a_above, a_named, a_valueAt, a_kinds, a_vals, a_types, a_behind, a_local, a_length, a_open, a_table, a_results, a_known, a_along, a_stack, a_match, a_priority, a_out, a_on, a_matched, a_chosen, a_waiting, a_depths, a_outputs)) W T hp2 (br_f (by decide) ⟨_, tx_move_up W T ha p2 p2 (Nat.le_refl _) hp2 (fun _ => hp) (fun z => absurd hh z)⟩)))
theorem tx_move (W : tr_TW c r D nm) (T : xx_t f_used f_root a_names a_values a_parent a_first a_next c r D nm va) {a p2 p p20 K1 K0 : Nat} (ha : a < c) (hp2 : p2 < c) (hn : ¬ (a ≤ p2 ∧ p2 < tr_be c D a)) (ha0 : 0 < a) (hpa : tr_Pa D a p) (s1 : tr_sh a (tr_be c D a - a) p20 = p2) (s2 : p20 < c - (tr_be c D a - a)) (hK1 : tr_Hn c D p2 K1 (p2 + 1)) (hK0 : tr_Hn (c - (tr_be c D a - a)) (tr_cut a (tr_be c D a - a) D) p20 K0 (p20 + 1)) (hKK : K1 = K0 + (if p2 = p then 1 else 0)) {k : Int32} {post : Int32 → SX → Prop}
    (hneg : k < 0 → post 0 (f_root, f_used, f_counted, f_sorted, f_put, a_names, a_values, a_parent, a_first, a_next, a_place, a_nodeAt, a_end, a_up, a_children, a_above, a_named, a_valueAt, a_kinds, a_vals, a_types, a_behind, a_local, a_length, a_open, a_table, a_results, a_known, a_along, a_stack, a_match, a_priority, a_out, a_on, a_matched, a_chosen, a_waiting, a_depths, a_outputs)) (hbig : ∀ kk, kk < 2 ^ 31 → k = nI kk → K0 < kk → post 0 (f_root, f_used, f_counted, f_sorted, f_put, a_names, a_values, a_parent, a_first, a_next, a_place, a_nodeAt, a_end, a_up, a_children, a_above, a_named, a_valueAt, a_kinds, a_vals, a_types, a_behind, a_local, a_length, a_open, a_table, a_results, a_known, a_along, a_stack, a_match, a_priority, a_out, a_on, a_matched, a_chosen, a_waiting, a_depths, a_outputs))
    (hgood : ∀ kk, k = nI kk → kk ≤ K0 → ∀ parent first next kn, xx_t (nI (c - (tr_be c D a - a) + (tr_be c D a - a))) f_root a_names a_values parent first next (c - (tr_be c D a - a) + (tr_be c D a - a)) (tr_sp (tr_it (c - (tr_be c D a - a)) (tr_cut a (tr_be c D a - a) D) kk (p20 + 1)) (tr_be c D a - a) (tr_cut a (tr_be c D a - a) r) (fun j => r (a + j))) (tr_sp (tr_it (c - (tr_be c D a - a)) (tr_cut a (tr_be c D a - a) D) kk (p20 + 1)) (tr_be c D a - a) (tr_cut a (tr_be c D a - a) D) (tr_mE D a (tr_cut a (tr_be c D a - a) D p20))) (tr_sp (tr_it (c - (tr_be c D a - a)) (tr_cut a (tr_be c D a - a) D) kk (p20 + 1)) (tr_be c D a - a) (tr_cut a (tr_be c D a - a) nm) (fun j => nm (a + j))) (tr_spI (tr_it (c - (tr_be c D a - a)) (tr_cut a (tr_be c D a - a) D) kk (p20 + 1)) (tr_be c D a - a) (tr_cutI a (tr_be c D a - a) va) (fun j => va (a + j))) → (∀ s, s < 8 → kn s = 0) →
      post 1 (f_root, f_used, 0, 0, f_put, a_names, a_values, parent, first, next, a_place, a_nodeAt, a_end, a_up, a_children, a_above, a_named, a_valueAt, a_kinds, a_vals, a_types, a_behind, a_local, a_length, a_open, a_table, a_results, kn, a_along, a_stack, a_match, a_priority, a_out, a_on, a_matched, a_chosen, a_waiting, a_depths, a_outputs)) :
    wpX_move post (f_root, f_used, f_counted, f_sorted, f_put, a_names, a_values, a_parent, a_first, a_next, a_place, a_nodeAt, a_end, a_up, a_children, a_above, a_named, a_valueAt, a_kinds, a_vals, a_types, a_behind, a_local, a_length, a_open, a_table, a_results, a_known, a_along, a_stack, a_match, a_priority, a_out, a_on, a_matched, a_chosen, a_waiting, a_depths, a_outputs) (nI (r a)) (nI (r p2)) k := by
  have hc := W.1
  have hr := W.2.1
  have hra := hr a ha
  have hrp2 := hr p2 hp2
  have L := T.2.2.2.1
  obtain ⟨b1, b2, b3, b4⟩ := tr_be_spec (D := D) ha
  have hpl := hpa.1
  have W0 := tr_TW_cut W ha hpa
  have hK1l := tr_Hn_le hp2 K1 (p2 + 1) (tr_Cb_0 W.2.2.2.1 hp2) hK1
  have hb2 := (tr_be_spec (D := D) hp2).2.1
  have er2 : tr_cut a (tr_be c D a - a) r p20 = r p2 := by rw [← tr_cut_sh, s1]
  obtain ⟨F1, F2, F3⟩ := tr_mv_facts W ha
  have hroot : f_root = nI (tr_cut a (tr_be c D a - a) r 0) := by rw [tr_cut_lo ha0, T.2.1, if_neg (by omega)]
  -- both ways of linking
  have lnk : ∀ kk, k = nI kk → kk ≤ K0 → ∀ (fi ne : Nat → Int32), tr_LK (c - (tr_be c D a - a)) (tr_cut a (tr_be c D a - a) D) (tr_cut a (tr_be c D a - a) r) fi ne a_parent → tr_LB (tr_be c D a - a) (fun j => D (a + j)) (fun j => r (a + j)) fi ne a_parent →
      wpX_link (fun u => match u with | (f_root, f_used, f_counted, f_sorted, f_put, a_names, a_values, a_parent, a_first, a_next, a_place, a_nodeAt, a_end, a_up, a_children, a_above, a_named, a_valueAt, a_kinds, a_vals, a_types, a_behind, a_local, a_length, a_open, a_table, a_results, a_known, a_along, a_stack, a_match, a_priority, a_out, a_on, a_matched, a_chosen, a_waiting, a_depths, a_outputs) => (wpX_changed (fun u => match u with | (f_root, f_used, f_counted, f_sorted, f_put, a_names, a_values, a_parent, a_first, a_next, a_place, a_nodeAt, a_end, a_up, a_children, a_above, a_named, a_valueAt, a_kinds, a_vals, a_types, a_behind, a_local, a_length, a_open, a_table, a_results, a_known, a_along, a_stack, a_match, a_priority, a_out, a_on, a_matched, a_chosen, a_waiting, a_depths, a_outputs) => (post 1 (f_root, f_used, f_counted, f_sorted, f_put, a_names, a_values, a_parent, a_first, a_next, a_place, a_nodeAt, a_end, a_up, a_children, a_above, a_named, a_valueAt, a_kinds, a_vals, a_types, a_behind, a_local, a_length, a_open, a_table, a_results, a_known, a_along, a_stack, a_match, a_priority, a_out, a_on, a_matched, a_chosen, a_waiting, a_depths, a_outputs))) (f_root, f_used, f_counted, f_sorted, f_put, a_names, a_values, a_parent, a_first, a_next, a_place, a_nodeAt, a_end, a_up, a_children, a_above, a_named, a_valueAt, a_kinds, a_vals, a_types, a_behind, a_local, a_length, a_open, a_table, a_results, a_known, a_along, a_stack, a_match, a_priority, a_out, a_on, a_matched, a_chosen, a_waiting, a_depths, a_outputs))) (f_root, f_used, f_counted, f_sorted, f_put, a_names, a_values, a_parent, fi, ne, a_place, a_nodeAt, a_end, a_up, a_children, a_above, a_named, a_valueAt, a_kinds, a_vals, a_types, a_behind, a_local, a_length, a_open, a_table, a_results, a_known, a_along, a_stack, a_match, a_priority, a_out, a_on, a_matched, a_chosen, a_waiting, a_depths, a_outputs) (nI (r a)) (nI (r p2)) k := by
    intro kk hk hkk fi ne L0 B0
    subst hk
    have S2 := tr_mv_SP W.2.2.2.1 ha hpa s2 hK0 hkk
    have B2 : tr_LB (tr_be c D a - a) (tr_mE D a (tr_cut a (tr_be c D a - a) D p20)) (fun j => r (a + j)) fi ne a_parent := by
      refine tr_LB_shift (a := tr_cut a (tr_be c D a - a) D p20 + 1) (b := D a) (fun j hj => ?_) B0
      have : D a ≤ D (a + j) := by
        by_cases z : j = 0
        · rw [z]; exact Nat.le_refl _
        · have := b3 (a + j) (by omega) (by omega); omega
      show D (a + j) + _ = _ + 1 + (D (a + j) - D a) + D a
      omega
    rw [← er2]
    have hF : fi (tr_cut a (tr_be c D a - a) r p20) = tr_w (c - (tr_be c D a - a)) (tr_cut a (tr_be c D a - a) D) (tr_cut a (tr_be c D a - a) r) p20 (p20 + 1) := by rw [(L0 p20 s2).1, tr_fc_w W0.2.2.2.1 s2]
    have hbb := (tr_be_spec (D := tr_cut a (tr_be c D a - a) D) s2).2.1
    have hN : ∀ x, tr_Cb (c - (tr_be c D a - a)) (tr_cut a (tr_be c D a - a) D) p20 x → x < tr_be (c - (tr_be c D a - a)) (tr_cut a (tr_be c D a - a) D) p20 → ne (tr_cut a (tr_be c D a - a) r x) = tr_w (c - (tr_be c D a - a)) (tr_cut a (tr_be c D a - a) D) (tr_cut a (tr_be c D a - a) r) p20 (tr_be (c - (tr_be c D a - a)) (tr_cut a (tr_be c D a - a) D) x) := by
      intro x h1 h2
      rw [(L0 x (by omega)).2.1, tr_nx_w s2 h1 h2]
    have n1 : ∀ i, i < c - (tr_be c D a - a) → tr_cut a (tr_be c D a - a) r i ≠ r a := fun i hi => F1 i 0 hi (by omega)
    have nmf : ∀ i, i < c - (tr_be c D a - a) → a_names (tr_cut a (tr_be c D a - a) r i) = nI (tr_cut a (tr_be c D a - a) nm i) ∧ a_values (tr_cut a (tr_be c D a - a) r i) = tr_cutI a (tr_be c D a - a) va i := by
      intro i hi
      rw [← tr_cut_sh, ← tr_cut_sh, ← tr_cutI_sh]
      exact T.2.2.1 _ (tr_sh_lt hi (by omega))
    have nmb : ∀ j, j < tr_be c D a - a → a_names (r (a + j)) = nI (nm (a + j)) ∧ a_values (r (a + j)) = va (a + j) := fun j hj => T.2.2.1 _ (by omega)
    have nmo : ∀ n, n < 24 → (∀ i, i < c - (tr_be c D a - a) → tr_cut a (tr_be c D a - a) r i ≠ n) → (∀ j, j < tr_be c D a - a → r (a + j) ≠ n) → a_names n = -1 := by
      intro n hn h1 h2
      refine T.2.2.2.2 n hn (fun i hi e => ?_)
      rcases F3 i hi with ⟨q, q1, q2⟩ | ⟨q, q1, q2⟩
      · exact h1 q q1 (by rw [← q2]; exact e)
      · exact h2 q q1 (by rw [← q2]; exact e)
    have fb : ∀ j, 0 < j → j < tr_be c D a - a → r (a + j) ≠ r a := fun j h1 h2 e => by have := W.2.2.1 _ _ (by omega) (by omega) e; omega
    refine tx_link W0 s2 hra hK0 hkk hF hN (fun hq => ?_) (fun y hy hv => ?_)
    · refine tx_changed (fun kn hkn => hgood kk rfl hkk _ _ _ kn (xx_t_sp S2 hroot nmf nmb ?_ nmo) hkn)
      refine tr_relink S2 L0 B2 (fun i hi h => ?_) (fun _ => pk_us) (fun j hj => ?_) (fun i hi h => ?_) (fun i hi h => absurd hq (tr_pv_ne hi h)) ?_ (fun j h1 h2 => ?_) (fun i hi => ?_) pk_us (fun j h1 h2 => ?_)
      · exact pk_un (fun e => h ⟨W0.2.2.1 i p20 hi s2 e, hq⟩)
      · exact pk_un (fun e => F1 p20 j s2 hj e.symm)
      · exact pk_un (n1 i hi)
      · show upd ne (r a) _ (r (a + 0)) = _
        rw [show a + 0 = a from rfl, pk_us, hq]
      · exact pk_un (fb j h1 h2)
      · exact pk_un (n1 i hi)
      · exact pk_un (fb j h1 h2)
    · refine tx_changed (fun kn hkn => hgood kk rfl hkk _ _ _ kn (xx_t_sp S2 hroot nmf nmb ?_ nmo) hkn)
      have hq := tr_pv_ne hy hv
      refine tr_relink S2 L0 B2 (fun i hi h => rfl) (fun e => absurd e hq) (fun j hj => rfl) (fun i hi h => ?_) (fun i hi h => ?_) ?_ (fun j h1 h2 => ?_) (fun i hi => ?_) pk_us (fun j h1 h2 => ?_)
      · rw [pk_un (fun e => h (by rw [W0.2.2.1 i y hi hy e]; exact hv)), pk_un (n1 i hi)]
      · rw [tr_pv_uniq hi hy h hv, pk_us]; rfl
      · show upd (upd ne (r a) _) _ _ (r (a + 0)) = _
        rw [show a + 0 = a from rfl, pk_un (fun e => n1 y hy e.symm), pk_us]
      · rw [pk_un (fun e => F1 y j hy h2 e.symm), pk_un (fb j h1 h2)]
      · exact pk_un (n1 i hi)
      · exact pk_un (fb j h1 h2)
  have k66 : ∀ z0 : Int32, nI K1 - z0 = nI K0 → wX_move_66 post (nI (r a)) (nI (r p2)) k z0 (nI K1) f_root f_used f_counted f_sorted f_put a_names a_values a_parent a_first a_next a_place a_nodeAt a_end a_up a_children a_above a_named a_valueAt a_kinds a_vals a_types a_behind a_local a_length a_open a_table a_results a_known a_along a_stack a_match a_priority a_out a_on a_matched a_chosen a_waiting a_depths a_outputs := by
    intro z0 hz
    refine nm_r hz ?_
    by_cases hk : k < 0
    · exact br_t hk (hneg hk)
    · obtain ⟨kk, hkb, rfl⟩ := nI_of hk
      refine br_f hk (pk_le kk K0 (fun hle => ?_) (fun hgt => hbig kk hkb rfl hgt))
      refine tx_unlink W L hpa ha (fun hq => ?_) (fun y hy hv => ?_)
      · obtain ⟨L0, B0⟩ := tr_unlinkA W ha hpa L hq
        exact lnk kk rfl hle _ _ L0 B0
      · obtain ⟨L0, B0⟩ := tr_unlinkY W ha hpa L hy hv
        exact lnk kk rfl hle _ _ L0 B0
  unfold wpX_move
  refine tx_isNode1 (u := (f_root, f_used, f_counted, f_sorted, f_put, a_names, a_values, a_parent, a_first, a_next, a_place, a_nodeAt, a_end, a_up, a_children, a_above, a_named, a_valueAt, a_kinds, a_vals, a_types, a_behind, a_local, a_length, a_open, a_table, a_results, a_known, a_along, a_stack, a_match, a_priority, a_out, a_on, a_matched, a_chosen, a_waiting, a_depths, a_outputs)) W T ha (br_f (by decide) (tx_isNode1 (u := (f_root, f_used, f_counted, f_sorted, f_put, a_names, a_values, a_parent, a_first, a_next, a_place, a_nodeAt, a_end, a_up, a_children, a_above, a_named, a_valueAt, a_kinds, a_vals, a_types, a_behind, a_local, a_length, a_open, a_table, a_results, a_known, a_along, a_stack, a_match, a_priority, a_out, a_on, a_matched, a_chosen, a_waiting, a_depths, a_outputs)) W T hp2 (br_f (by decide) ⟨_, tx_move_up W T ha p2 p2 (Nat.le_refl _) hp2 (fun z => absurd z hn) (fun _ n => ?_)⟩)))
  refine br_t (by decide) (tx_many (u := (f_root, f_used, f_counted, f_sorted, f_put, a_names, a_values, a_parent, a_first, a_next, a_place, a_nodeAt, a_end, a_up, a_children, a_above, a_named, a_valueAt, a_kinds, a_vals, a_types, a_behind, a_local, a_length, a_open, a_table, a_results, a_known, a_along, a_stack, a_match, a_priority, a_out, a_on, a_matched, a_chosen, a_waiting, a_depths, a_outputs)) W T hp2 hK1 ⟨pk_in (r a) 24 hra, ?_⟩)
  have epa : a_parent (nI (r a)).toNatClampNeg = nI (r p) := by rw [nI_clamp (by omega), (L a ha).2.2, tr_pr_of hpa]; rfl
  have hrp := hr p (by omega)
  refine pk_eq (r p) (r p2) (fun e => ?_) (fun e => ?_) epa
  · have e' : p2 = p := (W.2.2.1 p p2 (by omega) hp2 e).symm
    rw [if_pos e'] at hKK
    refine k66 1 ?_
    rw [hKK]; exact nI_pred K0
  · have e' : p2 ≠ p := fun w => e (by rw [w])
    rw [if_neg e'] at hKK
    refine k66 0 ?_
    rw [hKK, Int32.sub_zero]; rfl
end
section
variable {c : Nat} {r D nm : Nat → Nat} {va : Nat → Int32} {g_count g_top g_listed g_outputs : Int32} {b_row b_depth b_name b_value b_moved b_kind b_with b_length b_sets b_fresh b_type b_number b_set b_list b_there b_match b_priority b_out b_on b_todo b_within b_output : Nat → Int32}
theorem ty_move_hit (W : tr_TW c r D nm) (T : yy_t g_count b_row b_depth b_name b_value c r D nm va) {a p2 : Nat} (ha : a < c) (hp2 : p2 < c) (hh : a ≤ p2 ∧ p2 < tr_be c D a) {k : Int32} {post : Int32 → SY → Prop} (hp : post 0 (g_count, g_top, g_listed, g_outputs, b_row, b_depth, b_name, b_value, b_moved, b_kind, b_with, b_length, b_sets, b_fresh, b_type, b_number, b_set, b_list, b_there, b_match, b_priority, b_out, b_on, b_todo, b_within, b_output)) : wpY_move post (g_count, g_top, g_listed, g_outputs, b_row, b_depth, b_name, b_value, b_moved, b_kind, b_with, b_length, b_sets, b_fresh, b_type, b_number, b_set, b_list, b_there, b_match, b_priority, b_out, b_on, b_todo, b_within, b_output) (nI (r a)) (nI (r p2)) k := by
  have hc := W.1
  have TT : yy_T (g_count, g_top, g_listed, g_outputs, b_row, b_depth, b_name, b_value, b_moved, b_kind, b_with, b_length, b_sets, b_fresh, b_type, b_number, b_set, b_list, b_there, b_match, b_priority, b_out, b_on, b_todo, b_within, b_output) c r D nm va := T
  have hra := W.2.1 a ha
  have hrp := W.2.1 p2 hp2
  unfold wpY_move
  refine ty_where1 (v := (g_count, g_top, g_listed, g_outputs, b_row, b_depth, b_name, b_value, b_moved, b_kind, b_with, b_length, b_sets, b_fresh, b_type, b_number, b_set, b_list, b_there, b_match, b_priority, b_out, b_on, b_todo, b_within, b_output)) W TT ha (br_f (nI_pos (by omega)) (ty_where1 (v := (g_count, g_top, g_listed, g_outputs, b_row, b_depth, b_name, b_value, b_moved, b_kind, b_with, b_length, b_sets, b_fresh, b_type, b_number, b_set, b_list, b_there, b_match, b_priority, b_out, b_on, b_todo, b_within, b_output)) W TT hp2 (br_f (nI_pos (by omega)) (pk_eq (r a) (r p2) (fun _ => hp) (fun e => ?_)))))
  have ne : a ≠ p2 := fun w => e (by rw [w])
  exact ty_isBelow (v := (g_count, g_top, g_listed, g_outputs, b_row, b_depth, b_name, b_value, b_moved, b_kind, b_with, b_length, b_sets, b_fresh, b_type, b_number, b_set, b_list, b_there, b_match, b_priority, b_out, b_on, b_todo, b_within, b_output)) W TT (i := a) (k := p2) ha hp2 (fun _ => br_f (by decide) hp) (fun z => absurd ⟨by omega, hh.2⟩ z)
theorem ty_move_neg (W : tr_TW c r D nm) (T : yy_t g_count b_row b_depth b_name b_value c r D nm va) {a p2 : Nat} (ha : a < c) (hp2 : p2 < c) (hn : ¬ (a ≤ p2 ∧ p2 < tr_be c D a)) {k : Int32} (hk : k < 0) {post : Int32 → SY → Prop} (hp : post 0 (g_count, g_top, g_listed, g_outputs, b_row, b_depth, b_name, b_value, b_moved, b_kind, b_with, b_length, b_sets, b_fresh, b_type, b_number, b_set, b_list, b_there, b_match, b_priority, b_out, b_on, b_todo, b_within, b_output)) : wpY_move post (g_count, g_top, g_listed, g_outputs, b_row, b_depth, b_name, b_value, b_moved, b_kind, b_with, b_length, b_sets, b_fresh, b_type, b_number, b_set, b_list, b_there, b_match, b_priority, b_out, b_on, b_todo, b_within, b_output) (nI (r a)) (nI (r p2)) k := by
  have hc := W.1
  have TT : yy_T (g_count, g_top, g_listed, g_outputs, b_row, b_depth, b_name, b_value, b_moved, b_kind, b_with, b_length, b_sets, b_fresh, b_type, b_number, b_set, b_list, b_there, b_match, b_priority, b_out, b_on, b_todo, b_within, b_output) c r D nm va := T
  have hra := W.2.1 a ha
  have hrp := W.2.1 p2 hp2
  have b1 := (tr_be_spec (D := D) ha).1
  unfold wpY_move
  refine ty_where1 (v := (g_count, g_top, g_listed, g_outputs, b_row, b_depth, b_name, b_value, b_moved, b_kind, b_with, b_length, b_sets, b_fresh, b_type, b_number, b_set, b_list, b_there, b_match, b_priority, b_out, b_on, b_todo, b_within, b_output)) W TT ha (br_f (nI_pos (by omega)) (ty_where1 (v := (g_count, g_top, g_listed, g_outputs, b_row, b_depth, b_name, b_value, b_moved, b_kind, b_with, b_length, b_sets, b_fresh, b_type, b_number, b_set, b_list, b_there, b_match, b_priority, b_out, b_on, b_todo, b_within, b_output)) W TT hp2 (br_f (nI_pos (by omega)) (pk_eq (r a) (r p2) (fun _ => hp) (fun e => ?_)))))
  exact ty_isBelow (v := (g_count, g_top, g_listed, g_outputs, b_row, b_depth, b_name, b_value, b_moved, b_kind, b_with, b_length, b_sets, b_fresh, b_type, b_number, b_set, b_list, b_there, b_match, b_priority, b_out, b_on, b_todo, b_within, b_output)) W TT (i := a) (k := p2) ha hp2 (fun z => absurd ⟨by omega, z.2⟩ hn) (fun _ => br_t rfl (br_f (Int32.not_le.mpr hk) hp))
/-- the block comes back at place q -/
theorem ty_mv_up (W : tr_TW c r D nm) (T : yy_t g_count b_row b_depth b_name b_value c r D nm va) {a q : Nat} (ha : a < c) (hq : q ≤ c - (tr_be c D a - a)) {E2 : Nat → Nat} {x9 : Int32} (hE : ∀ j, j < tr_be c D a - a → nI (D (a + j)) + x9 = nI (E2 j)) {rw0 mv : Nat → Int32} (hrw : ∀ i, i < c - (tr_be c D a - a) → rw0 i = nI (tr_cut a (tr_be c D a - a) r i)) (hmv : ∀ j, j < tr_be c D a - a → mv j = nI (r (a + j))) {g : Bool} {x1 x2 : Int32}
    (hx9 : (g = false → x9 = 0) ∧ (g = true → vp_in x2 24 ∧ vp_in x1 24 ∧ b_depth x2.toNatClampNeg + 1 - b_depth x1.toNatClampNeg = x9)) {post : Int32 → SY → Prop}
    (hp : ∀ row depth kn, yy_t (nI (c - (tr_be c D a - a) + (tr_be c D a - a))) row depth b_name b_value (c - (tr_be c D a - a) + (tr_be c D a - a)) (tr_sp q (tr_be c D a - a) (tr_cut a (tr_be c D a - a) r) (fun j => r (a + j))) (tr_sp q (tr_be c D a - a) (tr_cut a (tr_be c D a - a) D) E2) (tr_sp q (tr_be c D a - a) (tr_cut a (tr_be c D a - a) nm) (fun j => nm (a + j))) (tr_spI q (tr_be c D a - a) (tr_cutI a (tr_be c D a - a) va) (fun j => va (a + j))) → (∀ s, s < 8 → kn s = 0) →
      post (lb g) (nI (c - (tr_be c D a - a) + (tr_be c D a - a)), g_top, g_listed, g_outputs, row, depth, b_name, b_value, mv, b_kind, b_with, b_length, b_sets, kn, b_type, b_number, b_set, b_list, b_there, b_match, b_priority, b_out, b_on, b_todo, b_within, b_output)) :
    ∃ n176, wY_move_176 post x1 x2 (nI (tr_be c D a - a)) (nI q) (lb g) (nI (c - (tr_be c D a - a))) g_top g_listed g_outputs n176 (nI (c - (tr_be c D a - a)) - 1) rw0 b_depth b_name b_value mv b_kind b_with b_length b_sets b_fresh b_type b_number b_set b_list b_there b_match b_priority b_out b_on b_todo b_within b_output := by
  have hc := W.1
  have hr := W.2.1
  obtain ⟨b1, b2, b3, b4⟩ := tr_be_spec (D := D) ha
  obtain ⟨F1, F2, F3⟩ := tr_mv_facts W ha
  generalize hm : tr_be c D a - a = m at *
  -- the last loop
  have L246 : ∀ row1 : Nat → Int32, (∀ i, i < q → row1 i = nI (tr_cut a m r i)) → (∀ i, q ≤ i → i < c - m → row1 (i + m) = nI (tr_cut a m r i)) → ∀ d j row dep, j + d = m → (∀ i, i < j → row (q + i) = nI (r (a + i))) → (∀ k, k < q ∨ q + m ≤ k → row k = row1 k) → (∀ i, i < j → dep (r (a + i)) = nI (E2 i)) → (∀ n, (∀ i, i < j → r (a + i) ≠ n) → dep n = b_depth n) →
      wY_move_246 post (nI m) (nI q) (lb g) x9 (nI (c - m + m)) g_top g_listed g_outputs (d + 1) (nI j) row dep b_name b_value mv b_kind b_with b_length b_sets b_fresh b_type b_number b_set b_list b_there b_match b_priority b_out b_on b_todo b_within b_output := by
    intro row1 w1 w2 d
    induction d with
    | zero =>
      intro j row dep hj h1 h2 h3 h4
      have ej : j = m := by omega
      subst ej
      refine pk_le j j (fun _ => ty_changed (fun kn hkn => ⟨lb_narrow g, hp row dep kn (yy_t_sp hq (fun k hk => ?_) (fun i hi => ?_) (fun i hi => ?_)) hkn⟩)) (fun z => by omega)
      · rcases tr_cases hq hk with ⟨i, hi, rfl⟩ | ⟨i, hi, rfl⟩
        · rw [tr_sp_sh]
          unfold tr_sh
          by_cases z : i < q
          · rw [if_pos z, h2 i (by omega)]; exact w1 i z
          · rw [if_neg z, h2 _ (by omega)]; exact w2 i (by omega) hi
        · rw [tr_sp_mid hi]; exact h1 i hi
      · rw [h4 _ (fun q' hq' e => F1 i q' hi hq' e.symm), ← tr_cut_sh, ← tr_cut_sh, ← tr_cut_sh, ← tr_cutI_sh]
        exact (T.2 _ (tr_sh_lt hi (by omega))).2
      · exact ⟨h3 i hi, (T.2 (a + i) (by omega)).2.2⟩
    | succ d ih =>
      intro j row dep hj h1 h2 h3 h4
      have hrj := hr (a + j) (by omega)
      have e1 : nI q + nI j = nI (q + j) := nI_add _ _
      have em : mv (nI j).toNatClampNeg = nI (r (a + j)) := by rw [nI_clamp (by omega)]; exact hmv j (by omega)
      have ed : dep (mv (nI j).toNatClampNeg).toNatClampNeg + x9 = nI (E2 j) := by
        rw [em, nI_clamp (by omega), h4 _ (fun i hi e => by have := W.2.2.1 _ _ (by omega) (by omega) e; omega), (T.2 (a + j) (by omega)).2.1]
        exact hE j (by omega)
      refine pk_le m j (fun z => by omega) (fun _ => ⟨pk_in j 24 (by omega), pk_in (q + j) 24 (by omega) e1, nm_r (up_n e1 (by omega) em) ⟨pk_in j 24 (by omega), pk_in _ 24 hrj em, pk_in _ 24 hrj em, nm_r (up_n em (by omega) ed) (nm_r (nI_1 j) (ih (j + 1) _ _ (by omega) (fun i hi => ?_) (fun k hk => ?_) (fun i hi => ?_) (fun n hn => ?_)))⟩⟩)
      · by_cases e : i = j
        · rw [e, pk_us]
        · rw [pk_un (by omega)]; exact h1 i (by omega)
      · rw [pk_un (by omega)]; exact h2 k hk
      · by_cases e : i = j
        · rw [e, pk_us]
        · rw [pk_un (fun w => by have := W.2.2.1 _ _ (by omega) (by omega) w; omega)]; exact h3 i (by omega)
      · rw [pk_un (fun w => hn j (by omega) w.symm)]; exact h4 n (fun i hi => hn i (by omega))
  -- making room
  have L176 : ∀ d t row, t = q + d → t ≤ c - m → (∀ i, i < t → row i = rw0 i) → (∀ i, t ≤ i → i < c - m → row (i + m) = rw0 i) → wY_move_176 post x1 x2 (nI m) (nI q) (lb g) (nI (c - m)) g_top g_listed g_outputs (d + 1) (nI t + (-1)) row b_depth b_name b_value mv b_kind b_with b_length b_sets b_fresh b_type b_number b_set b_list b_there b_match b_priority b_out b_on b_todo b_within b_output := by
    intro d
    induction d with
    | zero =>
      intro t row ht htc h1 h2
      have et : t = q := by omega
      subst et
      have fin := fun row0 d j => L246 row0 d j
      have go : ∃ n246, wY_move_246 post (nI m) (nI t) (lb g) x9 (nI (c - m + m)) g_top g_listed g_outputs n246 0 row b_depth b_name b_value mv b_kind b_with b_length b_sets b_fresh b_type b_number b_set b_list b_there b_match b_priority b_out b_on b_todo b_within b_output := by
        have := L246 row (fun i hi => by rw [h1 i hi]; exact hrw i (by omega)) (fun i x1 x2 => by rw [h2 i x1 x2]; exact hrw i x2) m 0 row b_depth (by omega) (fun i hi => by omega) (fun k _ => rfl) (fun i hi => by omega) (fun n _ => rfl)
        rw [nI_0] at this
        exact ⟨_, this⟩
      refine br_t (lt_m1 (by omega)) (nm_r (nI_add _ _) ?_)
      cases g with
      | false =>
        refine br_t rfl ?_
        rw [hx9.1 rfl] at go
        exact go
      | true =>
        obtain ⟨v1, v2, v3⟩ := hx9.2 rfl
        exact br_f (by decide) ⟨v1, v2, nm_r v3 go⟩
    | succ d ih =>
      intro t row ht htc h1 h2
      obtain ⟨s, rfl⟩ : ∃ s, t = s + 1 := ⟨t - 1, by omega⟩
      rw [pk_m1]
      have e1 : nI s + nI m = nI (s + m) := nI_add _ _
      have er : row (nI s).toNatClampNeg = rw0 s := by rw [nI_clamp (by omega)]; exact h1 s (by omega)
      refine pk_lt s q (fun z => by omega) (fun _ => ⟨pk_in s 24 (by omega), pk_in (s + m) 24 (by omega) e1, nm_r (up_n e1 (by omega) er) (nm_e (ih s _ (by omega) (by omega) (fun i hi => ?_) (fun i x1 x2 => ?_)))⟩)
      · rw [pk_un (by omega)]; exact h1 i (by omega)
      · by_cases e : i = s
        · rw [e, pk_us]
        · rw [pk_un (by omega)]; exact h2 i (by omega) x2
  have h := L176 (c - m - q) (c - m) rw0 (by omega) (by omega) (fun i _ => rfl) (fun i x1 x2 => by omega)
  rw [← Int32.sub_eq_add_neg] at h
  exact ⟨_, h⟩
theorem ty_move (W : tr_TW c r D nm) (T : yy_t g_count b_row b_depth b_name b_value c r D nm va) {a p2 p p20 K0 kk : Nat} (ha : a < c) (hp2 : p2 < c) (hn : ¬ (a ≤ p2 ∧ p2 < tr_be c D a)) (hpa : tr_Pa D a p) (s1 : tr_sh a (tr_be c D a - a) p20 = p2) (s2 : p20 < c - (tr_be c D a - a)) (hK0 : tr_Hn (c - (tr_be c D a - a)) (tr_cut a (tr_be c D a - a) D) p20 K0 (p20 + 1)) (hkb : kk < 2 ^ 31) {post : Int32 → SY → Prop}
    (hbig : K0 < kk → ∀ row depth mv kn, yy_t (nI c) row depth b_name b_value c r D nm va → (∀ s, s < 8 → kn s = 0) → post 0 (nI c, g_top, g_listed, g_outputs, row, depth, b_name, b_value, mv, b_kind, b_with, b_length, b_sets, kn, b_type, b_number, b_set, b_list, b_there, b_match, b_priority, b_out, b_on, b_todo, b_within, b_output))
    (hgood : kk ≤ K0 → ∀ row depth mv kn, yy_t (nI (c - (tr_be c D a - a) + (tr_be c D a - a))) row depth b_name b_value (c - (tr_be c D a - a) + (tr_be c D a - a)) (tr_sp (tr_it (c - (tr_be c D a - a)) (tr_cut a (tr_be c D a - a) D) kk (p20 + 1)) (tr_be c D a - a) (tr_cut a (tr_be c D a - a) r) (fun j => r (a + j))) (tr_sp (tr_it (c - (tr_be c D a - a)) (tr_cut a (tr_be c D a - a) D) kk (p20 + 1)) (tr_be c D a - a) (tr_cut a (tr_be c D a - a) D) (tr_mE D a (tr_cut a (tr_be c D a - a) D p20))) (tr_sp (tr_it (c - (tr_be c D a - a)) (tr_cut a (tr_be c D a - a) D) kk (p20 + 1)) (tr_be c D a - a) (tr_cut a (tr_be c D a - a) nm) (fun j => nm (a + j))) (tr_spI (tr_it (c - (tr_be c D a - a)) (tr_cut a (tr_be c D a - a) D) kk (p20 + 1)) (tr_be c D a - a) (tr_cutI a (tr_be c D a - a) va) (fun j => va (a + j))) → (∀ s, s < 8 → kn s = 0) →
      post 1 (nI (c - (tr_be c D a - a) + (tr_be c D a - a)), g_top, g_listed, g_outputs, row, depth, b_name, b_value, mv, b_kind, b_with, b_length, b_sets, kn, b_type, b_number, b_set, b_list, b_there, b_match, b_priority, b_out, b_on, b_todo, b_within, b_output)) :
    wpY_move post (g_count, g_top, g_listed, g_outputs, b_row, b_depth, b_name, b_value, b_moved, b_kind, b_with, b_length, b_sets, b_fresh, b_type, b_number, b_set, b_list, b_there, b_match, b_priority, b_out, b_on, b_todo, b_within, b_output) (nI (r a)) (nI (r p2)) (nI kk) := by
  have hc := W.1
  have hr := W.2.1
  have TT : yy_T (g_count, g_top, g_listed, g_outputs, b_row, b_depth, b_name, b_value, b_moved, b_kind, b_with, b_length, b_sets, b_fresh, b_type, b_number, b_set, b_list, b_there, b_match, b_priority, b_out, b_on, b_todo, b_within, b_output) c r D nm va := T
  have hra := hr a ha
  have hrp := hr p2 hp2
  obtain ⟨b1, b2, b3, b4⟩ := tr_be_spec (D := D) ha
  have W0 := tr_TW_cut W ha hpa
  have hcnt : g_count = nI c := T.1
  have er2 : tr_cut a (tr_be c D a - a) r p20 = r p2 := by rw [← tr_cut_sh, s1]
  have eD2 : tr_cut a (tr_be c D a - a) D p20 = D p2 := by rw [← tr_cut_sh, s1]
  unfold wpY_move
  refine ty_where1 (v := (g_count, g_top, g_listed, g_outputs, b_row, b_depth, b_name, b_value, b_moved, b_kind, b_with, b_length, b_sets, b_fresh, b_type, b_number, b_set, b_list, b_there, b_match, b_priority, b_out, b_on, b_todo, b_within, b_output)) W TT ha (br_f (nI_pos (by omega)) (ty_where1 (v := (g_count, g_top, g_listed, g_outputs, b_row, b_depth, b_name, b_value, b_moved, b_kind, b_with, b_length, b_sets, b_fresh, b_type, b_number, b_set, b_list, b_there, b_match, b_priority, b_out, b_on, b_todo, b_within, b_output)) W TT hp2 (br_f (nI_pos (by omega)) (pk_eq (r a) (r p2) (fun e => ?_) (fun _ => ?_)))))
  · have := W.2.2.1 a p2 ha hp2 e
    exact absurd ⟨by omega, by omega⟩ hn
  refine ty_isBelow (v := (g_count, g_top, g_listed, g_outputs, b_row, b_depth, b_name, b_value, b_moved, b_kind, b_with, b_length, b_sets, b_fresh, b_type, b_number, b_set, b_list, b_there, b_match, b_priority, b_out, b_on, b_todo, b_within, b_output)) W TT (i := a) (k := p2) ha hp2 (fun z => absurd ⟨by omega, z.2⟩ hn) (fun _ => br_t rfl (br_t (nI_pos' hkb) (ty_behind (v := (g_count, g_top, g_listed, g_outputs, b_row, b_depth, b_name, b_value, b_moved, b_kind, b_with, b_length, b_sets, b_fresh, b_type, b_number, b_set, b_list, b_there, b_match, b_priority, b_out, b_on, b_todo, b_within, b_output)) W TT ha (nm_r (pk_sub (by omega)) ?_))))
  -- after the block is taken out
  have after : ∀ (rw0 mv : Nat → Int32), (∀ i, i < c - (tr_be c D a - a) → rw0 i = nI (tr_cut a (tr_be c D a - a) r i)) → (∀ j, j < tr_be c D a - a → mv j = nI (r (a + j))) →
      wpY_where (fun r_118 => (wpY_place (fun r_145 => (((r_145 < 0 → (wY_move_157 post (nI (r a)) (nI (r p2)) (nI a) (nI (tr_be c D a - a)) r_145 0 (nI (c - (tr_be c D a - a))) g_top g_listed g_outputs rw0 b_depth b_name b_value mv b_kind b_with b_length b_sets b_fresh b_type b_number b_set b_list b_there b_match b_priority b_out b_on b_todo b_within b_output)) ∧ (¬ r_145 < 0 → (wY_move_157 post (nI (r a)) (nI (r p2)) (nI a) (nI (tr_be c D a - a)) r_145 1 (nI (c - (tr_be c D a - a))) g_top g_listed g_outputs rw0 b_depth b_name b_value mv b_kind b_with b_length b_sets b_fresh b_type b_number b_set b_list b_there b_match b_priority b_out b_on b_todo b_within b_output))))) (nI (c - (tr_be c D a - a)), g_top, g_listed, g_outputs, rw0, b_depth, b_name, b_value, mv, b_kind, b_with, b_length, b_sets, b_fresh, b_type, b_number, b_set, b_list, b_there, b_match, b_priority, b_out, b_on, b_todo, b_within, b_output) r_118 (nI kk))) (nI (c - (tr_be c D a - a)), g_top, g_listed, g_outputs, rw0, b_depth, b_name, b_value, mv, b_kind, b_with, b_length, b_sets, b_fresh, b_type, b_number, b_set, b_list, b_there, b_match, b_priority, b_out, b_on, b_todo, b_within, b_output) (nI (r p2)) := by
    intro rw0 mv hrw hmv
    have T0 : yy_T (nI (c - (tr_be c D a - a)), g_top, g_listed, g_outputs, rw0, b_depth, b_name, b_value, mv, b_kind, b_with, b_length, b_sets, b_fresh, b_type, b_number, b_set, b_list, b_there, b_match, b_priority, b_out, b_on, b_todo, b_within, b_output) (c - (tr_be c D a - a)) (tr_cut a (tr_be c D a - a) r) (tr_cut a (tr_be c D a - a) D) (tr_cut a (tr_be c D a - a) nm) (tr_cutI a (tr_be c D a - a) va) := by
      refine ⟨rfl, fun i hi => ⟨hrw i hi, ?_⟩⟩
      rw [← tr_cut_sh, ← tr_cut_sh, ← tr_cut_sh, ← tr_cutI_sh]
      exact (T.2 _ (tr_sh_lt hi (by omega))).2
    rw [← er2]
    refine ty_where1 (v := (nI (c - (tr_be c D a - a)), g_top, g_listed, g_outputs, rw0, b_depth, b_name, b_value, mv, b_kind, b_with, b_length, b_sets, b_fresh, b_type, b_number, b_set, b_list, b_there, b_match, b_priority, b_out, b_on, b_todo, b_within, b_output)) W0 T0 s2 (ty_place (v := (nI (c - (tr_be c D a - a)), g_top, g_listed, g_outputs, rw0, b_depth, b_name, b_value, mv, b_kind, b_with, b_length, b_sets, b_fresh, b_type, b_number, b_set, b_list, b_there, b_match, b_priority, b_out, b_on, b_todo, b_within, b_output)) W0 T0 s2 hkb hK0 (fun hle => ?_) (fun hgt => ?_))
    · have hq : tr_it (c - (tr_be c D a - a)) (tr_cut a (tr_be c D a - a) D) kk (p20 + 1) ≤ c - (tr_be c D a - a) := by
        have := (tr_it_Cb s2 kk K0 (p20 + 1) (tr_Cb_0 W0.2.2.2.1 s2) hK0 hle).1.2.1
        have := (tr_be_spec (D := tr_cut a (tr_be c D a - a) D) s2).2.1
        omega
      refine br_f (nI_pos (by omega)) (br_f (by decide) (nm_e ?_))
      refine ty_mv_up (g := true) (x9 := nI (D p2 + 1) - nI (D a)) W T ha hq (fun j hj => ?_) hrw hmv ⟨fun z => absurd z (by decide), fun _ => ⟨pk_in (tr_cut a (tr_be c D a - a) r p20) 24 (by rw [er2]; exact hrp), pk_in (r a) 24 hra, ?_⟩⟩ (fun row depth kn h hkn => hgood hle row depth mv kn h hkn)
      · have : D a ≤ D (a + j) := by
          by_cases z : j = 0
          · rw [z]; exact Nat.le_refl _
          · have := b3 (a + j) (by omega) (by omega); omega
        obtain ⟨w, hw⟩ : ∃ w, D (a + j) = w + D a := ⟨D (a + j) - D a, by omega⟩
        show _ = nI (tr_cut a (tr_be c D a - a) D p20 + 1 + (D (a + j) - D a))
        rw [hw, ← nI_add, i32r, nI_add, eD2]
        congr 1
        omega
      · rw [er2, nI_clamp (by omega), nI_clamp (by omega), (T.2 p2 hp2).2.1, (T.2 a ha).2.1, nI_1]
    · refine br_t (by decide) (br_t rfl (nm_e ?_))
      refine ty_mv_up (g := false) (x9 := 0) (E2 := fun j => D (a + j)) W T ha (by omega) (fun j hj => Int32.add_zero _) hrw hmv ⟨fun _ => rfl, fun z => absurd z (by decide)⟩ (fun row depth kn h hkn => ?_)
      rw [tr_cut_sp, tr_cut_sp, tr_cut_sp, tr_cutI_sp, show c - (tr_be c D a - a) + (tr_be c D a - a) = c by omega] at h
      have := hbig hgt row depth mv kn h hkn
      rw [show c - (tr_be c D a - a) + (tr_be c D a - a) = c by omega]
      exact this
  -- the shift down
  have L99 : ∀ mv : Nat → Int32, (∀ j, j < tr_be c D a - a → mv j = nI (r (a + j))) → ∀ d j row, j + d = c - (tr_be c D a - a) → a ≤ j → (∀ i, i < j → row i = nI (tr_cut a (tr_be c D a - a) r i)) → (∀ i, j ≤ i → row i = b_row i) → wY_move_99 post (nI (r a)) (nI (r p2)) (nI kk) (nI a) (nI (tr_be c D a - a)) (nI (c - (tr_be c D a - a))) g_top g_listed g_outputs (d + 1) (nI j) row b_depth b_name b_value mv b_kind b_with b_length b_sets b_fresh b_type b_number b_set b_list b_there b_match b_priority b_out b_on b_todo b_within b_output := by
    intro mv hmv d
    induction d with
    | zero =>
      intro j row hj haj h1 h2
      exact pk_le (c - (tr_be c D a - a)) j (fun _ => after row mv (fun i hi => h1 i (by omega)) hmv) (fun z => by omega)
    | succ d ih =>
      intro j row hj haj h1 h2
      have e1 : nI j + nI (tr_be c D a - a) = nI (j + (tr_be c D a - a)) := nI_add _ _
      have er : row (nI j + nI (tr_be c D a - a)).toNatClampNeg = nI (tr_cut a (tr_be c D a - a) r j) := by
        rw [cl_n e1 (by omega), h2 _ (by omega), (T.2 _ (by omega)).1, tr_cut_hi haj]
      refine pk_le (c - (tr_be c D a - a)) j (fun z => by omega) (fun _ => ⟨pk_in (j + (tr_be c D a - a)) 24 (by omega) e1, pk_in j 24 (by omega), nm_r (up_cl (by omega) er) (nm_r (nI_1 j) (ih (j + 1) _ (by omega) (by omega) (fun i hi => ?_) (fun i hi => ?_)))⟩)
      · by_cases e : i = j
        · rw [e, pk_us]
        · rw [pk_un e]; exact h1 i (by omega)
      · rw [pk_un (by omega)]; exact h2 i (by omega)
  -- the copy
  have L54 : ∀ d j mv, j + d = tr_be c D a - a → (∀ i, i < j → mv i = nI (r (a + i))) → wY_move_54 post (nI (r a)) (nI (r p2)) (nI kk) (nI a) (nI (tr_be c D a - a)) g_count g_top g_listed g_outputs (d + 1) (nI j) b_row b_depth b_name b_value mv b_kind b_with b_length b_sets b_fresh b_type b_number b_set b_list b_there b_match b_priority b_out b_on b_todo b_within b_output := by
    intro d
    induction d with
    | zero =>
      intro j mv hj h1
      have ej : j = tr_be c D a - a := by omega
      refine pk_le (tr_be c D a - a) j (fun _ => nm_r (e' := nI (c - (tr_be c D a - a))) (by rw [hcnt]; exact pk_sub (by omega)) ⟨_, L99 mv (fun i hi => h1 i (by omega)) (c - (tr_be c D a - a) - a) a b_row (by omega) (by omega) (fun i hi => ?_) (fun i _ => rfl)⟩) (fun z => by omega)
      rw [tr_cut_lo hi]; exact (T.2 i (by omega)).1
    | succ d ih =>
      intro j mv hj h1
      have e1 : nI a + nI j = nI (a + j) := nI_add _ _
      have er : b_row (nI a + nI j).toNatClampNeg = nI (r (a + j)) := by rw [cl_n e1 (by omega)]; exact (T.2 (a + j) (by omega)).1
      refine pk_le (tr_be c D a - a) j (fun z => by omega) (fun _ => ⟨pk_in (a + j) 24 (by omega) e1, pk_in j 24 (by omega), nm_r (up_cl (by omega) er) (nm_r (nI_1 j) (ih (j + 1) _ (by omega) (fun i hi => ?_)))⟩)
      by_cases e : i = j
      · rw [e, pk_us]
      · rw [pk_un e]; exact h1 i (by omega)
  have h := L54 (tr_be c D a - a) 0 b_moved (by omega) (fun i hi => by omega)
  rw [nI_0] at h
  exact ⟨_, h⟩
end
end
section
/-! ===== the relation; init; the tree's methods ===== -/
def zz_E (ln : Nat → Nat) (KK : Nat → Nat → Nat) (VV : Nat → Nat → Int32) (nd : Nat) (KD : Nat → Nat) (VD : Nat → Int32) (length kinds vals types behind loc ylength kind wit : Nat → Int32) : Prop :=
  (∀ t, ln t ≤ 40) ∧ xx_SL ln KK VV length kinds vals types behind loc ∧ yy_SL ln KK VV ylength kind wit ∧ nd ≤ 40 ∧ length 8 = nI nd ∧ ylength 8 = nI nd ∧
  ∀ i, i < nd → ex_tok (KD i) (VD i) ∧ (kinds (320 + i) = nI (KD i) ∧ vals (320 + i) = (if KD i = 2 ∨ KD i = 4 then VD i else 0)) ∧ kind (320 + i) = nI (KD i) ∧ wit (320 + i) = VD i
def zz_T (mo oo no : Nat → Option Nat) (mat pri out on there ymat ypri yout yon : Nat → Int32) : Prop :=
  (∀ t, t < 6 → mat t = tm_mo (mo t) ∧ ∀ m, mo t = some m → m < 8) ∧ yy_M mo there ymat ∧ (∀ t, t < 6 → out t = tm_mo (oo t) ∧ ∀ m, oo t = some m → m < 8) ∧ (∀ t, t < 6 → on t = tm_mo (no t) ∧ ∀ m, no t = some m → m < 8) ∧ (∀ t, t < 6 → yout t = tm_mo (oo t) ∧ ∀ m, oo t = some m → m < 8) ∧ (∀ t, t < 6 → yon t = tm_mo (no t) ∧ ∀ m, no t = some m → m < 8) ∧ pri = ypri
def zz_C (c : Nat) (r D nm : Nat → Nat) (va : Nat → Int32) (ln : Nat → Nat) (KK : Nat → Nat → Nat) (VV : Nat → Nat → Int32) (mo : Nat → Option Nat) (counted sorted : Int32) (place nodeAt en up children above named valueAt known results pri matched chosen fresh sets : Nat → Int32) : Prop :=
  (counted ≠ 0 → xx_ct c r D nm va place nodeAt en up children above named valueAt) ∧ (∀ t, t < 8 → known t ≠ 0 → ∀ x, x < c → results (24 * t + x) = sm_R c D nm va ln KK VV t x) ∧ (sorted ≠ 0 → xx_so c D ln KK (sm_R c D nm va ln KK VV) mo pri matched chosen) ∧ yy_fr c r D nm va ln KK VV fresh sets
def zz_O (put : Int32) (outputs : Nat → Int32) (youtputs : Int32) (output : Nat → Int32) : Prop := ∃ o : List Int32, o.length ≤ 100 ∧ put = nI o.length ∧ youtputs = nI o.length ∧ om_ar outputs 0 o ∧ om_ar output 0 o
/-- the two desks hold the same tree, expressions, templates and outputs; what is cached is right -/
def i_Rel (_ : Nat) (u : SX) (v : SY) : Prop := match u, v with
  | (f_root, f_used, f_counted, f_sorted, f_put, a_names, a_values, a_parent, a_first, a_next, a_place, a_nodeAt, a_end, a_up, a_children, a_above, a_named, a_valueAt, a_kinds, a_vals, a_types, a_behind, a_local, a_length, a_open, a_table, a_results, a_known, a_along, a_stack, a_match, a_priority, a_out, a_on, a_matched, a_chosen, a_waiting, a_depths, a_outputs), (g_count, g_top, g_listed, g_outputs, b_row, b_depth, b_name, b_value, b_moved, b_kind, b_with, b_length, b_sets, b_fresh, b_type, b_number, b_set, b_list, b_there, b_match, b_priority, b_out, b_on, b_todo, b_within, b_output) => ∃ (c : Nat) (r D nm : Nat → Nat) (va : Nat → Int32) (ln : Nat → Nat) (KK : Nat → Nat → Nat) (VV : Nat → Nat → Int32) (nd : Nat) (KD : Nat → Nat) (VD : Nat → Int32) (mo oo no : Nat → Option Nat),
    tr_TW c r D nm ∧ xx_t f_used f_root a_names a_values a_parent a_first a_next c r D nm va ∧ yy_t g_count b_row b_depth b_name b_value c r D nm va ∧
    zz_E ln KK VV nd KD VD a_length a_kinds a_vals a_types a_behind a_local b_length b_kind b_with ∧ zz_T mo oo no a_match a_priority a_out a_on b_there b_match b_priority b_out b_on ∧
    zz_C c r D nm va ln KK VV mo f_counted f_sorted a_place a_nodeAt a_end a_up a_children a_above a_named a_valueAt a_known a_results a_priority a_matched a_chosen b_fresh b_sets ∧ zz_O f_put a_outputs g_outputs b_output
theorem i_up {k : Nat} {u : SX} {v : SY} (h : i_Rel k u v) : i_Rel (k + 6) u v := h
section
variable {c : Nat} {r D nm : Nat → Nat} {va : Nat → Int32} {ln : Nat → Nat} {KK : Nat → Nat → Nat} {VV : Nat → Nat → Int32} {nd : Nat} {KD : Nat → Nat} {VD : Nat → Int32} {mo oo no : Nat → Option Nat} {f_root f_used f_counted f_sorted f_put : Int32} {a_names a_values a_parent a_first a_next a_place a_nodeAt a_end a_up a_children a_above a_named a_valueAt a_kinds a_vals a_types a_behind a_local a_length a_open a_table a_results a_known a_along a_stack a_match a_priority a_out a_on a_matched a_chosen a_waiting a_depths a_outputs : Nat → Int32} {g_count g_top g_listed g_outputs : Int32} {b_row b_depth b_name b_value b_moved b_kind b_with b_length b_sets b_fresh b_type b_number b_set b_list b_there b_match b_priority b_out b_on b_todo b_within b_output : Nat → Int32}
theorem zz_mk {k : Nat} (W : tr_TW c r D nm) (TX : xx_t f_used f_root a_names a_values a_parent a_first a_next c r D nm va) (TY : yy_t g_count b_row b_depth b_name b_value c r D nm va)
    (EE : zz_E ln KK VV nd KD VD a_length a_kinds a_vals a_types a_behind a_local b_length b_kind b_with) (TM : zz_T mo oo no a_match a_priority a_out a_on b_there b_match b_priority b_out b_on)
    (CC : zz_C c r D nm va ln KK VV mo f_counted f_sorted a_place a_nodeAt a_end a_up a_children a_above a_named a_valueAt a_known a_results a_priority a_matched a_chosen b_fresh b_sets) (OO : zz_O f_put a_outputs g_outputs b_output) :
    i_Rel k (f_root, f_used, f_counted, f_sorted, f_put, a_names, a_values, a_parent, a_first, a_next, a_place, a_nodeAt, a_end, a_up, a_children, a_above, a_named, a_valueAt, a_kinds, a_vals, a_types, a_behind, a_local, a_length, a_open, a_table, a_results, a_known, a_along, a_stack, a_match, a_priority, a_out, a_on, a_matched, a_chosen, a_waiting, a_depths, a_outputs) (g_count, g_top, g_listed, g_outputs, b_row, b_depth, b_name, b_value, b_moved, b_kind, b_with, b_length, b_sets, b_fresh, b_type, b_number, b_set, b_list, b_there, b_match, b_priority, b_out, b_on, b_todo, b_within, b_output) := by
  unfold i_Rel
  exact ⟨c, r, D, nm, va, ln, KK, VV, nd, KD, VD, mo, oo, no, W, TX, TY, EE, TM, CC, OO⟩
theorem zz_C0 {pl na en up ch ab nm' vv kn rs pr ma cs fr se : Nat → Int32} (hk : ∀ s, s < 8 → kn s = 0) (hf : ∀ s, s < 8 → fr s = 0) : zz_C c r D nm va ln KK VV mo 0 0 pl na en up ch ab nm' vv kn rs pr ma cs fr se :=
  ⟨fun z => absurd rfl z, fun t ht z => absurd (hk t ht) z, fun z => absurd rfl z, fun t ht z => absurd (hf t ht) z⟩
end
theorem zz_init {post : SX → Prop} (hp : ∀ nz mz, (∀ n, n < 24 → nz n = -1) → (∀ t, t < 6 → mz t = -1) → post (-1, 0, 0, 0, 0, nz, fun _ => 0, fun _ => 0, fun _ => 0, fun _ => 0, fun _ => 0, fun _ => 0, fun _ => 0, fun _ => 0, fun _ => 0, fun _ => 0, fun _ => 0, fun _ => 0, fun _ => 0, fun _ => 0, fun _ => 0, fun _ => 0, fun _ => 0, fun _ => 0, fun _ => 0, fun _ => 0, fun _ => 0, fun _ => 0, fun _ => 0, fun _ => 0, mz, fun _ => 0, fun _ => 0, fun _ => 0, fun _ => 0, fun _ => 0, fun _ => 0, fun _ => 0, fun _ => 0)) : wpX_init post := by
  have L2 : ∀ nz : Nat → Int32, (∀ n, n < 24 → nz n = -1) → ∀ d j mz, j + d = 6 → (∀ t, t < j → mz t = -1) → wX_init_313 post (-1) 0 0 0 0 (d + 1) (nI j) nz (fun _ => 0) (fun _ => 0) (fun _ => 0) (fun _ => 0) (fun _ => 0) (fun _ => 0) (fun _ => 0) (fun _ => 0) (fun _ => 0) (fun _ => 0) (fun _ => 0) (fun _ => 0) (fun _ => 0) (fun _ => 0) (fun _ => 0) (fun _ => 0) (fun _ => 0) (fun _ => 0) (fun _ => 0) (fun _ => 0) (fun _ => 0) (fun _ => 0) (fun _ => 0) (fun _ => 0) mz (fun _ => 0) (fun _ => 0) (fun _ => 0) (fun _ => 0) (fun _ => 0) (fun _ => 0) (fun _ => 0) (fun _ => 0) := by
    intro nz hnz d
    induction d with
    | zero => intro j mz hj h; exact pk_le 6 j (fun _ => hp nz mz hnz (fun t ht => h t (by omega))) (fun z => by omega)
    | succ d ih =>
      intro j mz hj h
      refine pk_le 6 j (fun z => by omega) (fun z => ⟨pk_in j 6 z, nm_r (up_cl (by omega) bs_nb1) (nm_r (nI_1 j) (ih (j + 1) _ (by omega) (fun t ht => ?_)))⟩)
      by_cases e : t = j
      · rw [e, pk_us]
      · rw [pk_un e]; exact h t (by omega)
  have L1 : ∀ d j nz, j + d = 24 → (∀ n, n < j → nz n = -1) → wX_init_292 post (-1) 0 0 0 0 (d + 1) (nI j) nz (fun _ => 0) (fun _ => 0) (fun _ => 0) (fun _ => 0) (fun _ => 0) (fun _ => 0) (fun _ => 0) (fun _ => 0) (fun _ => 0) (fun _ => 0) (fun _ => 0) (fun _ => 0) (fun _ => 0) (fun _ => 0) (fun _ => 0) (fun _ => 0) (fun _ => 0) (fun _ => 0) (fun _ => 0) (fun _ => 0) (fun _ => 0) (fun _ => 0) (fun _ => 0) (fun _ => 0) (fun _ => 0) (fun _ => 0) (fun _ => 0) (fun _ => 0) (fun _ => 0) (fun _ => 0) (fun _ => 0) (fun _ => 0) (fun _ => 0) := by
    intro d
    induction d with
    | zero =>
      intro j nz hj h
      have h2 := L2 nz (fun n hn => h n (by omega)) 6 0 (fun _ => 0) (by omega) (fun t ht => by omega)
      rw [nI_0] at h2
      exact pk_le 24 j (fun _ => ⟨_, h2⟩) (fun z => by omega)
    | succ d ih =>
      intro j nz hj h
      refine pk_le 24 j (fun z => by omega) (fun z => ⟨pk_in j 24 z, nm_r (up_cl (by omega) bs_nb1) (nm_r (nI_1 j) (ih (j + 1) _ (by omega) (fun t ht => ?_)))⟩)
      by_cases e : t = j
      · rw [e, pk_us]
      · rw [pk_un e]; exact h t (by omega)
  have h := L1 24 0 (fun _ => 0) (by omega) (fun n hn => by omega)
  rw [nI_0] at h
  exact ⟨_, h⟩
theorem i_vc0 : wpX_init (fun u => wpY_init (fun v => i_Rel 0 u v)) := by
  refine zz_init (fun nz mz hn hm => ?_)
  unfold wpY_init
  refine zz_mk (c := 0) (r := fun _ => 0) (D := fun _ => 0) (nm := fun _ => 0) (va := fun _ => 0) (ln := fun _ => 0) (KK := fun _ _ => 0) (VV := fun _ _ => 0) (nd := 0) (KD := fun _ => 0) (VD := fun _ => 0) (mo := fun _ => none) (oo := fun _ => some 0) (no := fun _ => some 0) ?_ ?_ ?_ ?_ ?_ ?_ ?_
  · exact ⟨by omega, fun i hi => by omega, fun i j hi => by omega, ⟨fun z => by omega, fun i hi => by omega⟩, fun i hi => by omega⟩
  · exact ⟨rfl, rfl, fun i hi => by omega, fun i hi => by omega, fun n h _ => hn n h⟩
  · exact ⟨rfl, fun i hi => by omega⟩
  · exact ⟨fun t => Nat.zero_le _, fun s hs => ⟨rfl, fun z => absurd z (Nat.lt_irrefl 0)⟩, fun s hs => ⟨rfl, fun z => absurd z (Nat.lt_irrefl 0)⟩, by omega, rfl, rfl, fun i hi => by omega⟩
  · exact ⟨fun t ht => ⟨hm t ht, fun m e => absurd e (by simp)⟩, fun t ht => Or.inl ⟨rfl, rfl⟩, fun t ht => ⟨rfl, fun m e => by have := Option.some.inj e; omega⟩, fun t ht => ⟨rfl, fun m e => by have := Option.some.inj e; omega⟩, fun t ht => ⟨rfl, fun m e => by have := Option.some.inj e; omega⟩, fun t ht => ⟨rfl, fun m e => by have := Option.some.inj e; omega⟩, rfl⟩
  · exact zz_C0 (fun s _ => rfl) (fun s _ => rfl)
  · exact ⟨[], by simp, rfl, rfl, trivial, trivial⟩
theorem ty_in0 {post : Int32 → Prop} {x : Int32} {b : Nat} (hb : b < 2 ^ 30) (hx : ∀ a, a ≤ b → x ≠ nI a) (hp : post 0) : wpY_in post x 0 (nI b) := by
  by_cases h : x < 0
  · exact br_t h hp
  · obtain ⟨j, hj, rfl⟩ := nI_of h
    refine br_f h (pk_lt b j (fun _ => hp) (fun z => ?_))
    exact absurd rfl (hx j z)
theorem i_vc_insert {k : Nat} {u : SX} {v : SY} (I : i_Rel k u v) (hk : k + 6 ≤ 3072) (v1 : Int32) (v2 : Int32) (v3 : Int32) : wpX_insert (fun r u' => wpY_insert (fun r' v' => r' = r ∧ i_Rel (k + 6) u' v') v v1 v2 v3) u v1 v2 v3 := by
  obtain ⟨f_root, f_used, f_counted, f_sorted, f_put, a_names, a_values, a_parent, a_first, a_next, a_place, a_nodeAt, a_end, a_up, a_children, a_above, a_named, a_valueAt, a_kinds, a_vals, a_types, a_behind, a_local, a_length, a_open, a_table, a_results, a_known, a_along, a_stack, a_match, a_priority, a_out, a_on, a_matched, a_chosen, a_waiting, a_depths, a_outputs⟩ := u
  obtain ⟨g_count, g_top, g_listed, g_outputs, b_row, b_depth, b_name, b_value, b_moved, b_kind, b_with, b_length, b_sets, b_fresh, b_type, b_number, b_set, b_list, b_there, b_match, b_priority, b_out, b_on, b_todo, b_within, b_output⟩ := v
  have I0 := i_up I
  obtain ⟨c, r, D, nm, va, ln, KK, VV, nd, KD, VD, mo, oo, no, W, TX, TY, EE, TM, CC, OO⟩ := I
  have hc := W.1
  have hux : f_used = nI c := TX.1
  have huy : g_count = nI c := TY.1
  have TT : yy_T (g_count, g_top, g_listed, g_outputs, b_row, b_depth, b_name, b_value, b_moved, b_kind, b_with, b_length, b_sets, b_fresh, b_type, b_number, b_set, b_list, b_there, b_match, b_priority, b_out, b_on, b_todo, b_within, b_output) c r D nm va := TY
  by_cases ha : ∃ a, a < 6 ∧ v3 = nI a
  · obtain ⟨a, ha, rfl⟩ := ha
    by_cases h24 : c = 24
    · unfold wpX_insert
      refine tx_isName1 ha (br_f (by decide) (br_t (by rw [hux, h24]; rfl) ?_))
      unfold wpY_insert
      exact ty_inN (a := 0) (b := 5) (by omega) (by omega) (by omega) (fun _ => br_f (by decide) (br_t (by rw [huy, h24]; rfl) ⟨rfl, I0⟩)) (fun z => by omega)
    · by_cases h0 : c = 0
      · subst h0
        refine tx_insert0 W TX ha (fun names values parent first next kn hX hkn => ty_insert0 W TY ha (fun row depth name value kn' hY hkn' => ⟨rfl, zz_mk ?_ hX hY EE TM (zz_C0 hkn hkn') OO⟩))
        exact ⟨by omega, fun i hi => by show 0 < 24; omega, fun i j hi hj _ => by omega, ⟨fun _ => rfl, fun i hi => by omega⟩, fun i hi => ha⟩
      · have hroot : f_root = nI (r 0) := by have := TX.2.1; rw [if_neg h0] at this; exact this
        have hr0 := W.2.1 0 (by omega)
        have hrt : ¬ f_root < 0 := by rw [hroot]; exact nI_pos (by omega)
        have hu24 : ¬ f_used = 24 := by
          rw [hux]
          exact fun e => h24 ((nI_eq (b := 24) (by omega) (by omega)).mp e)
        have hy24 : ¬ g_count = 24 := by
          rw [huy]
          exact fun e => h24 ((nI_eq (b := 24) (by omega) (by omega)).mp e)
        have hy0 : ¬ g_count ≤ 0 := by rw [huy]; exact nI_nle (by omega) (by omega)
        by_cases hp : ∃ p, p < c ∧ v1 = nI (r p)
        · obtain ⟨p, hp, rfl⟩ := hp
          have hrp := W.2.1 p hp
          obtain ⟨K, hK⟩ := tr_Hn_ex hp (tr_be c D p - (p + 1) + 1) (p + 1) (by omega) (tr_Cb_0 W.2.2.2.1 hp)
          have hKl := tr_Hn_le hp K (p + 1) (tr_Cb_0 W.2.2.2.1 hp) hK
          have hbp := (tr_be_spec (D := D) hp).2.1
          by_cases hneg : v2 < 0
          · unfold wpX_insert
            refine tx_isName1 ha (br_f (by decide) (br_f hu24 (br_f hrt (tx_isNode1 (u := (f_root, f_used, f_counted, f_sorted, f_put, a_names, a_values, a_parent, a_first, a_next, a_place, a_nodeAt, a_end, a_up, a_children, a_above, a_named, a_valueAt, a_kinds, a_vals, a_types, a_behind, a_local, a_length, a_open, a_table, a_results, a_known, a_along, a_stack, a_match, a_priority, a_out, a_on, a_matched, a_chosen, a_waiting, a_depths, a_outputs)) W TX hp (br_f (by decide) (br_t hneg ?_))))))
            unfold wpY_insert
            exact ty_inN (a := 0) (b := 5) (by omega) (by omega) (by omega) (fun _ => br_f (by decide) (br_f hy24 (br_f hy0 (ty_where1 (v := (g_count, g_top, g_listed, g_outputs, b_row, b_depth, b_name, b_value, b_moved, b_kind, b_with, b_length, b_sets, b_fresh, b_type, b_number, b_set, b_list, b_there, b_match, b_priority, b_out, b_on, b_todo, b_within, b_output)) W TT hp (br_f (nI_pos (by omega)) (br_f (Int32.not_le.mpr hneg) ⟨rfl, I0⟩)))))) (fun z => by omega)
          · obtain ⟨kk, hkb, rfl⟩ := nI_of hneg
            rcases Nat.lt_or_ge K kk with z | z
            · unfold wpX_insert
              refine tx_isName1 ha (br_f (by decide) (br_f hu24 (br_f hrt (tx_isNode1 (u := (f_root, f_used, f_counted, f_sorted, f_put, a_names, a_values, a_parent, a_first, a_next, a_place, a_nodeAt, a_end, a_up, a_children, a_above, a_named, a_valueAt, a_kinds, a_vals, a_types, a_behind, a_local, a_length, a_open, a_table, a_results, a_known, a_along, a_stack, a_match, a_priority, a_out, a_on, a_matched, a_chosen, a_waiting, a_depths, a_outputs)) W TX hp (br_f (by decide) (br_f hneg (tx_many (u := (f_root, f_used, f_counted, f_sorted, f_put, a_names, a_values, a_parent, a_first, a_next, a_place, a_nodeAt, a_end, a_up, a_children, a_above, a_named, a_valueAt, a_kinds, a_vals, a_types, a_behind, a_local, a_length, a_open, a_table, a_results, a_known, a_along, a_stack, a_match, a_priority, a_out, a_on, a_matched, a_chosen, a_waiting, a_depths, a_outputs)) W TX hp hK (br_f (nI_ge z hkb) ?_))))))))
              unfold wpY_insert
              exact ty_inN (a := 0) (b := 5) (by omega) (by omega) (by omega) (fun _ => br_f (by decide) (br_f hy24 (br_f hy0 (ty_where1 (v := (g_count, g_top, g_listed, g_outputs, b_row, b_depth, b_name, b_value, b_moved, b_kind, b_with, b_length, b_sets, b_fresh, b_type, b_number, b_set, b_list, b_there, b_match, b_priority, b_out, b_on, b_todo, b_within, b_output)) W TT hp (br_f (nI_pos (by omega)) (br_t (nI_pos' hkb) (ty_place (v := (g_count, g_top, g_listed, g_outputs, b_row, b_depth, b_name, b_value, b_moved, b_kind, b_with, b_length, b_sets, b_fresh, b_type, b_number, b_set, b_list, b_there, b_match, b_priority, b_out, b_on, b_todo, b_within, b_output)) W TT hp hkb hK (fun y => by omega) (fun _ => br_f (by decide) ⟨rfl, I0⟩)))))))) (fun z => by omega)
            · obtain ⟨nb, n1, n2, n3⟩ := free_ex (c := c) (r := r) (by omega) W.2.1 W.2.2.1
              have S : tr_SP c (tr_it c D kk (p + 1)) 1 p D (fun _ => D p + 1) := tr_SP_new W.2.2.2.1 hp hK z (by omega) rfl (fun j h1 h2 => by omega) (fun j h => by omega)
              refine tx_insert W TX n1 n2 n3 ha (by omega) hp hK z (fun names values parent first next kn hX hkn => ty_insert W TY n1 n2 n3 ha (by omega) hp hK z (fun row depth name value kn' hY hkn' => ⟨rfl, zz_mk ?_ hX hY EE TM (zz_C0 hkn hkn') OO⟩))
              exact tr_TW_sp W S (by omega) (fun j _ => n1) (fun i j hi hj _ => by omega) (fun i j hi _ => n2 i hi) (fun j _ => ha)
        · have hp' : ∀ i, i < c → v1 ≠ nI (r i) := fun i hi e => hp ⟨i, hi, e⟩
          unfold wpX_insert
          refine tx_isName1 ha (br_f (by decide) (br_f hu24 (br_f hrt (tx_isNode0 (u := (f_root, f_used, f_counted, f_sorted, f_put, a_names, a_values, a_parent, a_first, a_next, a_place, a_nodeAt, a_end, a_up, a_children, a_above, a_named, a_valueAt, a_kinds, a_vals, a_types, a_behind, a_local, a_length, a_open, a_table, a_results, a_known, a_along, a_stack, a_match, a_priority, a_out, a_on, a_matched, a_chosen, a_waiting, a_depths, a_outputs)) W TX hp' (br_t rfl ?_)))))
          unfold wpY_insert
          exact ty_inN (a := 0) (b := 5) (by omega) (by omega) (by omega) (fun _ => br_f (by decide) (br_f hy24 (br_f hy0 (ty_where0 (v := (g_count, g_top, g_listed, g_outputs, b_row, b_depth, b_name, b_value, b_moved, b_kind, b_with, b_length, b_sets, b_fresh, b_type, b_number, b_set, b_list, b_there, b_match, b_priority, b_out, b_on, b_todo, b_within, b_output)) W TT hp' (br_t (by decide) ⟨rfl, I0⟩))))) (fun z => by omega)
  · have ha' : ∀ a, a < 6 → v3 ≠ nI a := fun a h e => ha ⟨a, h, e⟩
    unfold wpX_insert
    refine tx_isName0 ha' (br_t rfl ?_)
    unfold wpY_insert
    exact ty_in0 (b := 5) (by omega) (fun a h => ha' a (by omega)) (br_t rfl ⟨rfl, I0⟩)
theorem i_vc_remove {k : Nat} {u : SX} {v : SY} (I : i_Rel k u v) (hk : k + 6 ≤ 3072) (v1 : Int32) : wpX_remove (fun r u' => wpY_remove (fun r' v' => r' = r ∧ i_Rel (k + 6) u' v') v v1) u v1 := by
  obtain ⟨f_root, f_used, f_counted, f_sorted, f_put, a_names, a_values, a_parent, a_first, a_next, a_place, a_nodeAt, a_end, a_up, a_children, a_above, a_named, a_valueAt, a_kinds, a_vals, a_types, a_behind, a_local, a_length, a_open, a_table, a_results, a_known, a_along, a_stack, a_match, a_priority, a_out, a_on, a_matched, a_chosen, a_waiting, a_depths, a_outputs⟩ := u
  obtain ⟨g_count, g_top, g_listed, g_outputs, b_row, b_depth, b_name, b_value, b_moved, b_kind, b_with, b_length, b_sets, b_fresh, b_type, b_number, b_set, b_list, b_there, b_match, b_priority, b_out, b_on, b_todo, b_within, b_output⟩ := v
  have I0 := i_up I
  obtain ⟨c, r, D, nm, va, ln, KK, VV, nd, KD, VD, mo, oo, no, W, TX, TY, EE, TM, CC, OO⟩ := I
  have hc := W.1
  have TT : yy_T (g_count, g_top, g_listed, g_outputs, b_row, b_depth, b_name, b_value, b_moved, b_kind, b_with, b_length, b_sets, b_fresh, b_type, b_number, b_set, b_list, b_there, b_match, b_priority, b_out, b_on, b_todo, b_within, b_output) c r D nm va := TY
  by_cases hp : ∃ p, p < c ∧ v1 = nI (r p)
  · obtain ⟨a, ha, rfl⟩ := hp
    obtain ⟨b1, b2, b3, b4⟩ := tr_be_spec (D := D) ha
    refine tx_remove W TX CC.1 ha (fun root names first next kn place nodeAt en up ch ab nd' vv hX hkn => ty_remove W TY ha (fun row kn' hY hkn' => ⟨rfl, zz_mk ?_ hX hY EE TM (zz_C0 hkn hkn') OO⟩))
    rcases Nat.eq_zero_or_pos a with z | z
    · subst z
      have hbc : tr_be c D 0 = c := by
        rcases Nat.lt_or_ge (tr_be c D 0) c with y | y
        · have := b4 y
          have := tr_W_pos W.2.2.2.1 (i := tr_be c D 0) (by omega) y
          have := W.2.2.2.1.1 ha
          omega
        · omega
      rw [show c - (tr_be c D 0 - 0) = 0 by omega]
      exact ⟨by omega, fun i hi => by omega, fun i j hi => by omega, ⟨fun z => by omega, fun i hi => by omega⟩, fun i hi => by omega⟩
    · obtain ⟨p, epr, hpa⟩ := tr_pr_ex W.2.2.2.1 z ha
      exact tr_TW_cut W ha hpa
  · have hp' : ∀ i, i < c → v1 ≠ nI (r i) := fun i hi e => hp ⟨i, hi, e⟩
    unfold wpX_remove
    refine tx_isNode0 (u := (f_root, f_used, f_counted, f_sorted, f_put, a_names, a_values, a_parent, a_first, a_next, a_place, a_nodeAt, a_end, a_up, a_children, a_above, a_named, a_valueAt, a_kinds, a_vals, a_types, a_behind, a_local, a_length, a_open, a_table, a_results, a_known, a_along, a_stack, a_match, a_priority, a_out, a_on, a_matched, a_chosen, a_waiting, a_depths, a_outputs)) W TX hp' (br_t rfl ?_)
    unfold wpY_remove
    exact ty_where0 (v := (g_count, g_top, g_listed, g_outputs, b_row, b_depth, b_name, b_value, b_moved, b_kind, b_with, b_length, b_sets, b_fresh, b_type, b_number, b_set, b_list, b_there, b_match, b_priority, b_out, b_on, b_todo, b_within, b_output)) W TT hp' (br_f (by decide) ⟨rfl, I0⟩)
theorem i_vc_move {k : Nat} {u : SX} {v : SY} (I : i_Rel k u v) (hk : k + 6 ≤ 3072) (v1 : Int32) (v2 : Int32) (v3 : Int32) : wpX_move (fun r u' => wpY_move (fun r' v' => r' = r ∧ i_Rel (k + 6) u' v') v v1 v2 v3) u v1 v2 v3 := by
  obtain ⟨f_root, f_used, f_counted, f_sorted, f_put, a_names, a_values, a_parent, a_first, a_next, a_place, a_nodeAt, a_end, a_up, a_children, a_above, a_named, a_valueAt, a_kinds, a_vals, a_types, a_behind, a_local, a_length, a_open, a_table, a_results, a_known, a_along, a_stack, a_match, a_priority, a_out, a_on, a_matched, a_chosen, a_waiting, a_depths, a_outputs⟩ := u
  obtain ⟨g_count, g_top, g_listed, g_outputs, b_row, b_depth, b_name, b_value, b_moved, b_kind, b_with, b_length, b_sets, b_fresh, b_type, b_number, b_set, b_list, b_there, b_match, b_priority, b_out, b_on, b_todo, b_within, b_output⟩ := v
  have I0 := i_up I
  obtain ⟨c, r, D, nm, va, ln, KK, VV, nd, KD, VD, mo, oo, no, W, TX, TY, EE, TM, CC, OO⟩ := I
  have hc := W.1
  have TT : yy_T (g_count, g_top, g_listed, g_outputs, b_row, b_depth, b_name, b_value, b_moved, b_kind, b_with, b_length, b_sets, b_fresh, b_type, b_number, b_set, b_list, b_there, b_match, b_priority, b_out, b_on, b_todo, b_within, b_output) c r D nm va := TY
  by_cases h1 : ∃ p, p < c ∧ v1 = nI (r p)
  · obtain ⟨a, ha, rfl⟩ := h1
    by_cases h2 : ∃ p, p < c ∧ v2 = nI (r p)
    · obtain ⟨p2, hp2, rfl⟩ := h2
      obtain ⟨b1, b2, b3, b4⟩ := tr_be_spec (D := D) ha
      by_cases hh : a ≤ p2 ∧ p2 < tr_be c D a
      · exact tx_move_hit W TX ha hp2 hh (ty_move_hit W TY ha hp2 hh ⟨rfl, I0⟩)
      · obtain ⟨ha0, p, p20, K1, K0, hpa, s1, s2, hK1, hK0, hKK⟩ := tr_mv W.2.2.2.1 ha hp2 hh
        refine tx_move W TX ha hp2 hh ha0 hpa s1 s2 hK1 hK0 hKK (fun hneg => ty_move_neg W TY ha hp2 hh hneg ⟨rfl, I0⟩) (fun kk hkb ek hgt => ?_) (fun kk ek hle parent first next kn hX hkn => ?_)
        · subst ek
          refine ty_move W TY ha hp2 hh hpa s1 s2 hK0 hkb (fun _ row depth mv kn hY hkn => ⟨rfl, zz_mk W TX hY EE TM ?_ OO⟩) (fun z => by omega)
          exact ⟨CC.1, CC.2.1, CC.2.2.1, fun t ht z => absurd (hkn t ht) z⟩
        · subst ek
          have hKl := tr_Hn_le s2 K0 (p20 + 1) (tr_Cb_0 (tr_TW_cut W ha hpa).2.2.2.1 s2) hK0
          have hbp := (tr_be_spec (D := tr_cut a (tr_be c D a - a) D) s2).2.1
          have heq : f_used = nI (c - (tr_be c D a - a) + (tr_be c D a - a)) := by
            have : f_used = nI c := TX.1
            rw [this, show c - (tr_be c D a - a) + (tr_be c D a - a) = c by omega]
          refine ty_move W TY ha hp2 hh hpa s1 s2 hK0 (by omega) (fun z => by omega) (fun _ row depth mv kn' hY hkn' => ⟨rfl, zz_mk ?_ ⟨heq, hX.2⟩ hY EE TM (zz_C0 hkn hkn') OO⟩)
          obtain ⟨F1, F2, F3⟩ := tr_mv_facts W ha
          exact tr_TW_sp (tr_TW_cut W ha hpa) (tr_mv_SP W.2.2.2.1 ha hpa s2 hK0 hle) (by omega) (fun j hj => W.2.1 _ (by omega)) F2 F1 (fun j hj => W.2.2.2.2 _ (by omega))
    · have h2' : ∀ i, i < c → v2 ≠ nI (r i) := fun i hi e => h2 ⟨i, hi, e⟩
      unfold wpX_move
      refine tx_isNode1 (u := (f_root, f_used, f_counted, f_sorted, f_put, a_names, a_values, a_parent, a_first, a_next, a_place, a_nodeAt, a_end, a_up, a_children, a_above, a_named, a_valueAt, a_kinds, a_vals, a_types, a_behind, a_local, a_length, a_open, a_table, a_results, a_known, a_along, a_stack, a_match, a_priority, a_out, a_on, a_matched, a_chosen, a_waiting, a_depths, a_outputs)) W TX ha (br_f (by decide) (tx_isNode0 (u := (f_root, f_used, f_counted, f_sorted, f_put, a_names, a_values, a_parent, a_first, a_next, a_place, a_nodeAt, a_end, a_up, a_children, a_above, a_named, a_valueAt, a_kinds, a_vals, a_types, a_behind, a_local, a_length, a_open, a_table, a_results, a_known, a_along, a_stack, a_match, a_priority, a_out, a_on, a_matched, a_chosen, a_waiting, a_depths, a_outputs)) W TX h2' (br_t rfl ?_)))
      unfold wpY_move
      exact ty_where1 (v := (g_count, g_top, g_listed, g_outputs, b_row, b_depth, b_name, b_value, b_moved, b_kind, b_with, b_length, b_sets, b_fresh, b_type, b_number, b_set, b_list, b_there, b_match, b_priority, b_out, b_on, b_todo, b_within, b_output)) W TT ha (br_f (nI_pos (by omega)) (ty_where0 (v := (g_count, g_top, g_listed, g_outputs, b_row, b_depth, b_name, b_value, b_moved, b_kind, b_with, b_length, b_sets, b_fresh, b_type, b_number, b_set, b_list, b_there, b_match, b_priority, b_out, b_on, b_todo, b_within, b_output)) W TT h2' (br_t (by decide) ⟨rfl, I0⟩)))
  · have h1' : ∀ i, i < c → v1 ≠ nI (r i) := fun i hi e => h1 ⟨i, hi, e⟩
    unfold wpX_move
    refine tx_isNode0 (u := (f_root, f_used, f_counted, f_sorted, f_put, a_names, a_values, a_parent, a_first, a_next, a_place, a_nodeAt, a_end, a_up, a_children, a_above, a_named, a_valueAt, a_kinds, a_vals, a_types, a_behind, a_local, a_length, a_open, a_table, a_results, a_known, a_along, a_stack, a_match, a_priority, a_out, a_on, a_matched, a_chosen, a_waiting, a_depths, a_outputs)) W TX h1' (br_t rfl ?_)
    unfold wpY_move
    exact ty_where0 (v := (g_count, g_top, g_listed, g_outputs, b_row, b_depth, b_name, b_value, b_moved, b_kind, b_with, b_length, b_sets, b_fresh, b_type, b_number, b_set, b_list, b_there, b_match, b_priority, b_out, b_on, b_todo, b_within, b_output)) W TT h1' (br_t (by decide) ⟨rfl, I0⟩)
theorem i_vc_change {k : Nat} {u : SX} {v : SY} (I : i_Rel k u v) (hk : k + 6 ≤ 3072) (v1 : Int32) (v2 : Int32) (v3 : Int32) : wpX_change (fun r u' => wpY_change (fun r' v' => r' = r ∧ i_Rel (k + 6) u' v') v v1 v2 v3) u v1 v2 v3 := by
  obtain ⟨f_root, f_used, f_counted, f_sorted, f_put, a_names, a_values, a_parent, a_first, a_next, a_place, a_nodeAt, a_end, a_up, a_children, a_above, a_named, a_valueAt, a_kinds, a_vals, a_types, a_behind, a_local, a_length, a_open, a_table, a_results, a_known, a_along, a_stack, a_match, a_priority, a_out, a_on, a_matched, a_chosen, a_waiting, a_depths, a_outputs⟩ := u
  obtain ⟨g_count, g_top, g_listed, g_outputs, b_row, b_depth, b_name, b_value, b_moved, b_kind, b_with, b_length, b_sets, b_fresh, b_type, b_number, b_set, b_list, b_there, b_match, b_priority, b_out, b_on, b_todo, b_within, b_output⟩ := v
  have I0 := i_up I
  obtain ⟨c, r, D, nm, va, ln, KK, VV, nd, KD, VD, mo, oo, no, W, TX, TY, EE, TM, CC, OO⟩ := I
  have hc := W.1
  have TT : yy_T (g_count, g_top, g_listed, g_outputs, b_row, b_depth, b_name, b_value, b_moved, b_kind, b_with, b_length, b_sets, b_fresh, b_type, b_number, b_set, b_list, b_there, b_match, b_priority, b_out, b_on, b_todo, b_within, b_output) c r D nm va := TY
  by_cases h1 : ∃ p, p < c ∧ v1 = nI (r p)
  · obtain ⟨x, hx, rfl⟩ := h1
    have hrx := W.2.1 x hx
    by_cases ha : ∃ a, a < 6 ∧ v2 = nI a
    · obtain ⟨a, ha, rfl⟩ := ha
      unfold wpX_change
      refine tx_isNode1 (u := (f_root, f_used, f_counted, f_sorted, f_put, a_names, a_values, a_parent, a_first, a_next, a_place, a_nodeAt, a_end, a_up, a_children, a_above, a_named, a_valueAt, a_kinds, a_vals, a_types, a_behind, a_local, a_length, a_open, a_table, a_results, a_known, a_along, a_stack, a_match, a_priority, a_out, a_on, a_matched, a_chosen, a_waiting, a_depths, a_outputs)) W TX hx (br_f (by decide) (tx_isName1 ha (br_f (by decide) ⟨pk_in (r x) 24 hrx, nm_r (up_cl (by omega) (bs_nb (by omega))) ⟨pk_in (r x) 24 hrx, nm_r (up_cl (by omega) rfl) (tx_changed (fun kn hkn => ?_))⟩⟩)))
      unfold wpY_change
      refine ty_where1 (v := (g_count, g_top, g_listed, g_outputs, b_row, b_depth, b_name, b_value, b_moved, b_kind, b_with, b_length, b_sets, b_fresh, b_type, b_number, b_set, b_list, b_there, b_match, b_priority, b_out, b_on, b_todo, b_within, b_output)) W TT hx (br_f (nI_pos (by omega)) (ty_inN (a := 0) (b := 5) (by omega) (by omega) (by omega) (fun _ => br_f (by decide) ⟨pk_in (r x) 24 hrx, nm_r (up_cl (by omega) rfl) ⟨pk_in (r x) 24 hrx, nm_r (up_cl (by omega) rfl) (ty_changed (fun kn' hkn' => ⟨rfl, ?_⟩))⟩⟩) (fun z => by omega)))
      have ne : ∀ i, i < c → i ≠ x → r i ≠ r x := fun i hi h e => h (W.2.2.1 i x hi hx e)
      refine zz_mk (nm := fun i => if i = x then a else nm i) (va := fun i => if i = x then v3 else va i) ⟨W.1, W.2.1, W.2.2.1, W.2.2.2.1, fun i hi => ?_⟩ ⟨TX.1, TX.2.1, fun i hi => ?_, TX.2.2.2.1, fun n hn h => ?_⟩ ⟨TY.1, fun i hi => ?_⟩ EE TM (zz_C0 hkn hkn') OO
      · show (if i = x then a else nm i) < 6
        by_cases e : i = x
        · rw [if_pos e]; exact ha
        · rw [if_neg e]; exact W.2.2.2.2 i hi
      · show _ = nI (if i = x then a else nm i) ∧ _ = (if i = x then v3 else va i)
        by_cases e : i = x
        · rw [if_pos e, if_pos e, e, pk_us, pk_us]; exact ⟨rfl, rfl⟩
        · rw [if_neg e, if_neg e, pk_un (ne i hi e), pk_un (ne i hi e)]; exact TX.2.2.1 i hi
      · rw [pk_un (fun e => h x hx e.symm)]; exact TX.2.2.2.2 n hn h
      · show _ ∧ _ ∧ _ = nI (if i = x then a else nm i) ∧ _ = (if i = x then v3 else va i)
        obtain ⟨t1, t2, t3, t4⟩ := TY.2 i hi
        refine ⟨t1, t2, ?_⟩
        by_cases e : i = x
        · rw [if_pos e, if_pos e, e, pk_us, pk_us]; exact ⟨rfl, rfl⟩
        · rw [if_neg e, if_neg e, pk_un (ne i hi e), pk_un (ne i hi e)]; exact ⟨t3, t4⟩
    · have ha' : ∀ a, a < 6 → v2 ≠ nI a := fun a h e => ha ⟨a, h, e⟩
      unfold wpX_change
      refine tx_isNode1 (u := (f_root, f_used, f_counted, f_sorted, f_put, a_names, a_values, a_parent, a_first, a_next, a_place, a_nodeAt, a_end, a_up, a_children, a_above, a_named, a_valueAt, a_kinds, a_vals, a_types, a_behind, a_local, a_length, a_open, a_table, a_results, a_known, a_along, a_stack, a_match, a_priority, a_out, a_on, a_matched, a_chosen, a_waiting, a_depths, a_outputs)) W TX hx (br_f (by decide) (tx_isName0 ha' (br_t rfl ?_)))
      unfold wpY_change
      exact ty_where1 (v := (g_count, g_top, g_listed, g_outputs, b_row, b_depth, b_name, b_value, b_moved, b_kind, b_with, b_length, b_sets, b_fresh, b_type, b_number, b_set, b_list, b_there, b_match, b_priority, b_out, b_on, b_todo, b_within, b_output)) W TT hx (br_f (nI_pos (by omega)) (ty_in0 (b := 5) (by omega) (fun a h => ha' a (by omega)) (br_t rfl ⟨rfl, I0⟩)))
  · have h1' : ∀ i, i < c → v1 ≠ nI (r i) := fun i hi e => h1 ⟨i, hi, e⟩
    unfold wpX_change
    refine tx_isNode0 (u := (f_root, f_used, f_counted, f_sorted, f_put, a_names, a_values, a_parent, a_first, a_next, a_place, a_nodeAt, a_end, a_up, a_children, a_above, a_named, a_valueAt, a_kinds, a_vals, a_types, a_behind, a_local, a_length, a_open, a_table, a_results, a_known, a_along, a_stack, a_match, a_priority, a_out, a_on, a_matched, a_chosen, a_waiting, a_depths, a_outputs)) W TX h1' (br_t rfl ?_)
    unfold wpY_change
    exact ty_where0 (v := (g_count, g_top, g_listed, g_outputs, b_row, b_depth, b_name, b_value, b_moved, b_kind, b_with, b_length, b_sets, b_fresh, b_type, b_number, b_set, b_list, b_there, b_match, b_priority, b_out, b_on, b_todo, b_within, b_output)) W TT h1' (br_t (by decide) ⟨rfl, I0⟩)
theorem i_vc_child {k : Nat} {u : SX} {v : SY} (I : i_Rel k u v) (hk : k + 6 ≤ 3072) (v1 : Int32) (v2 : Int32) : wpX_child (fun r => wpY_child (fun r' => r' = r ∧ i_Rel (k + 6) u v) v v1 v2) u v1 v2 := by
  obtain ⟨f_root, f_used, f_counted, f_sorted, f_put, a_names, a_values, a_parent, a_first, a_next, a_place, a_nodeAt, a_end, a_up, a_children, a_above, a_named, a_valueAt, a_kinds, a_vals, a_types, a_behind, a_local, a_length, a_open, a_table, a_results, a_known, a_along, a_stack, a_match, a_priority, a_out, a_on, a_matched, a_chosen, a_waiting, a_depths, a_outputs⟩ := u
  obtain ⟨g_count, g_top, g_listed, g_outputs, b_row, b_depth, b_name, b_value, b_moved, b_kind, b_with, b_length, b_sets, b_fresh, b_type, b_number, b_set, b_list, b_there, b_match, b_priority, b_out, b_on, b_todo, b_within, b_output⟩ := v
  have I0 := i_up I
  obtain ⟨c, r, D, nm, va, ln, KK, VV, nd, KD, VD, mo, oo, no, W, TX, TY, EE, TM, CC, OO⟩ := I
  have hc := W.1
  have TT : yy_T (g_count, g_top, g_listed, g_outputs, b_row, b_depth, b_name, b_value, b_moved, b_kind, b_with, b_length, b_sets, b_fresh, b_type, b_number, b_set, b_list, b_there, b_match, b_priority, b_out, b_on, b_todo, b_within, b_output) c r D nm va := TY
  by_cases h1 : ∃ p, p < c ∧ v1 = nI (r p)
  · obtain ⟨p, hp, rfl⟩ := h1
    have hrp := W.2.1 p hp
    have hCb := tr_Cb_0 W.2.2.2.1 hp
    obtain ⟨K, hK⟩ := tr_Hn_ex hp (tr_be c D p - (p + 1) + 1) (p + 1) (by omega) hCb
    have hKl := tr_Hn_le hp K (p + 1) hCb hK
    have hbp := (tr_be_spec (D := D) hp).2.1
    by_cases hneg : v2 < 0
    · unfold wpX_child
      refine tx_isNode1 (u := (f_root, f_used, f_counted, f_sorted, f_put, a_names, a_values, a_parent, a_first, a_next, a_place, a_nodeAt, a_end, a_up, a_children, a_above, a_named, a_valueAt, a_kinds, a_vals, a_types, a_behind, a_local, a_length, a_open, a_table, a_results, a_known, a_along, a_stack, a_match, a_priority, a_out, a_on, a_matched, a_chosen, a_waiting, a_depths, a_outputs)) W TX hp (br_f (by decide) (br_f (Int32.not_le.mpr hneg) ?_))
      unfold wpY_child
      exact ty_where1 (v := (g_count, g_top, g_listed, g_outputs, b_row, b_depth, b_name, b_value, b_moved, b_kind, b_with, b_length, b_sets, b_fresh, b_type, b_number, b_set, b_list, b_there, b_match, b_priority, b_out, b_on, b_todo, b_within, b_output)) W TT hp (br_f (nI_pos (by omega)) (br_f (Int32.not_le.mpr hneg) ⟨rfl, I0⟩))
    · obtain ⟨kk, hkb, rfl⟩ := nI_of hneg
      unfold wpX_child
      have goal : ∀ w : Int32, (kk ≤ K → w = tr_w c D r p (tr_it c D kk (p + 1))) → (K < kk → w = -1) → wpY_child (fun r' => r' = w ∧ i_Rel (k + 6) (f_root, f_used, f_counted, f_sorted, f_put, a_names, a_values, a_parent, a_first, a_next, a_place, a_nodeAt, a_end, a_up, a_children, a_above, a_named, a_valueAt, a_kinds, a_vals, a_types, a_behind, a_local, a_length, a_open, a_table, a_results, a_known, a_along, a_stack, a_match, a_priority, a_out, a_on, a_matched, a_chosen, a_waiting, a_depths, a_outputs) (g_count, g_top, g_listed, g_outputs, b_row, b_depth, b_name, b_value, b_moved, b_kind, b_with, b_length, b_sets, b_fresh, b_type, b_number, b_set, b_list, b_there, b_match, b_priority, b_out, b_on, b_todo, b_within, b_output)) (g_count, g_top, g_listed, g_outputs, b_row, b_depth, b_name, b_value, b_moved, b_kind, b_with, b_length, b_sets, b_fresh, b_type, b_number, b_set, b_list, b_there, b_match, b_priority, b_out, b_on, b_todo, b_within, b_output) (nI (r p)) (nI kk) := by
        intro w hw1 hw2
        unfold wpY_child
        refine ty_where1 (v := (g_count, g_top, g_listed, g_outputs, b_row, b_depth, b_name, b_value, b_moved, b_kind, b_with, b_length, b_sets, b_fresh, b_type, b_number, b_set, b_list, b_there, b_match, b_priority, b_out, b_on, b_todo, b_within, b_output)) W TT hp (br_f (nI_pos (by omega)) (br_t (nI_pos' hkb) (ty_place (v := (g_count, g_top, g_listed, g_outputs, b_row, b_depth, b_name, b_value, b_moved, b_kind, b_with, b_length, b_sets, b_fresh, b_type, b_number, b_set, b_list, b_there, b_match, b_priority, b_out, b_on, b_todo, b_within, b_output)) W TT hp hkb hK (fun hle => ?_) (fun hgt => br_t (by decide) ⟨(hw2 hgt).symm, I0⟩))))
        have hq := (tr_it_Cb hp kk K (p + 1) hCb hK hle).1
        have hq2 := hq.2.1
        have e := hw1 hle
        refine br_f (nI_pos (by omega)) (ty_behind (v := (g_count, g_top, g_listed, g_outputs, b_row, b_depth, b_name, b_value, b_moved, b_kind, b_with, b_length, b_sets, b_fresh, b_type, b_number, b_set, b_list, b_there, b_match, b_priority, b_out, b_on, b_todo, b_within, b_output)) W TT hp (pk_eq (tr_it c D kk (p + 1)) (tr_be c D p) (fun z => ?_) (fun z => ⟨pk_in (tr_it c D kk (p + 1)) 24 (by omega), ?_⟩)))
        · rw [tr_w_out (by omega)] at e
          exact ⟨e.symm, I0⟩
        · rw [tr_w_in (by omega)] at e
          refine ⟨?_, I0⟩
          rw [e, nI_clamp (by omega)]
          exact (TY.2 _ (by omega)).1
      have ef : a_first (nI (r p)).toNatClampNeg = tr_w c D r p (p + 1) := xx_first (u := (f_root, f_used, f_counted, f_sorted, f_put, a_names, a_values, a_parent, a_first, a_next, a_place, a_nodeAt, a_end, a_up, a_children, a_above, a_named, a_valueAt, a_kinds, a_vals, a_types, a_behind, a_local, a_length, a_open, a_table, a_results, a_known, a_along, a_stack, a_match, a_priority, a_out, a_on, a_matched, a_chosen, a_waiting, a_depths, a_outputs)) W TX hp
      refine tx_isNode1 (u := (f_root, f_used, f_counted, f_sorted, f_put, a_names, a_values, a_parent, a_first, a_next, a_place, a_nodeAt, a_end, a_up, a_children, a_above, a_named, a_valueAt, a_kinds, a_vals, a_types, a_behind, a_local, a_length, a_open, a_table, a_results, a_known, a_along, a_stack, a_match, a_priority, a_out, a_on, a_matched, a_chosen, a_waiting, a_depths, a_outputs)) W TX hp (br_f (by decide) (br_t (nI_pos' hkb) ⟨pk_in (r p) 24 hrp, nm_r ef ?_⟩))
      have h := tx_child_loop (u := (f_root, f_used, f_counted, f_sorted, f_put, a_names, a_values, a_parent, a_first, a_next, a_place, a_nodeAt, a_end, a_up, a_children, a_above, a_named, a_valueAt, a_kinds, a_vals, a_types, a_behind, a_local, a_length, a_open, a_table, a_results, a_known, a_along, a_stack, a_match, a_priority, a_out, a_on, a_matched, a_chosen, a_waiting, a_depths, a_outputs)) (post := fun w => wpY_child (fun r' => r' = w ∧ i_Rel (k + 6) (f_root, f_used, f_counted, f_sorted, f_put, a_names, a_values, a_parent, a_first, a_next, a_place, a_nodeAt, a_end, a_up, a_children, a_above, a_named, a_valueAt, a_kinds, a_vals, a_types, a_behind, a_local, a_length, a_open, a_table, a_results, a_known, a_along, a_stack, a_match, a_priority, a_out, a_on, a_matched, a_chosen, a_waiting, a_depths, a_outputs) (g_count, g_top, g_listed, g_outputs, b_row, b_depth, b_name, b_value, b_moved, b_kind, b_with, b_length, b_sets, b_fresh, b_type, b_number, b_set, b_list, b_there, b_match, b_priority, b_out, b_on, b_todo, b_within, b_output)) (g_count, g_top, g_listed, g_outputs, b_row, b_depth, b_name, b_value, b_moved, b_kind, b_with, b_length, b_sets, b_fresh, b_type, b_number, b_set, b_list, b_there, b_match, b_priority, b_out, b_on, b_todo, b_within, b_output) (nI (r p)) (nI kk)) W TX hp hkb K (p + 1) 0 (by omega) hCb hK (fun z => goal _ (fun _ => rfl) (fun y => by omega)) (fun z => goal _ (fun y => by omega) (fun _ => rfl))
      rw [nI_0] at h
      exact ⟨_, h⟩
  · have h1' : ∀ i, i < c → v1 ≠ nI (r i) := fun i hi e => h1 ⟨i, hi, e⟩
    unfold wpX_child
    refine tx_isNode0 (u := (f_root, f_used, f_counted, f_sorted, f_put, a_names, a_values, a_parent, a_first, a_next, a_place, a_nodeAt, a_end, a_up, a_children, a_above, a_named, a_valueAt, a_kinds, a_vals, a_types, a_behind, a_local, a_length, a_open, a_table, a_results, a_known, a_along, a_stack, a_match, a_priority, a_out, a_on, a_matched, a_chosen, a_waiting, a_depths, a_outputs)) W TX h1' (br_t rfl ?_)
    unfold wpY_child
    exact ty_where0 (v := (g_count, g_top, g_listed, g_outputs, b_row, b_depth, b_name, b_value, b_moved, b_kind, b_with, b_length, b_sets, b_fresh, b_type, b_number, b_set, b_list, b_there, b_match, b_priority, b_out, b_on, b_todo, b_within, b_output)) W TT h1' (br_t (by decide) ⟨rfl, I0⟩)
end
section
/-! ===== token, expression ===== -/
section
variable {f_root f_used f_counted f_sorted f_put : Int32} {a_names a_values a_parent a_first a_next a_place a_nodeAt a_end a_up a_children a_above a_named a_valueAt a_kinds a_vals a_types a_behind a_local a_length a_open a_table a_results a_known a_along a_stack a_match a_priority a_out a_on a_matched a_chosen a_waiting a_depths a_outputs : Nat → Int32}
theorem tx_token62 {post : Int32 → SX → Prop} {n kd : Nat} {w : Int32} (hn : n < 40) (hk : kd ≤ 17) (hl : a_length 8 = nI n)
    (hp : post (nI (n + 1)) (f_root, f_used, f_counted, f_sorted, f_put, a_names, a_values, a_parent, a_first, a_next, a_place, a_nodeAt, a_end, a_up, a_children, a_above, a_named, a_valueAt, upd a_kinds (320 + n) (nI kd), upd a_vals (320 + n) (if kd = 2 ∨ kd = 4 then w else 0), a_types, a_behind, a_local, upd a_length 8 (nI (n + 1)), a_open, a_table, a_results, a_known, a_along, a_stack, a_match, a_priority, a_out, a_on, a_matched, a_chosen, a_waiting, a_depths, a_outputs)) : wX_token_62 post (nI kd) w f_root f_used f_counted f_sorted f_put a_names a_values a_parent a_first a_next a_place a_nodeAt a_end a_up a_children a_above a_named a_valueAt a_kinds a_vals a_types a_behind a_local a_length a_open a_table a_results a_known a_along a_stack a_match a_priority a_out a_on a_matched a_chosen a_waiting a_depths a_outputs := by
  have e1 : vp_nar .byte ((a_length 8 + 1).toInt8.toInt32) = nI (n + 1) := by rw [hl, nI_1]; exact bs_nb (by omega)
  have e2 : (320 : Int32) + a_length 8 = nI (320 + n) := by rw [hl]; exact x320 n
  refine nm_r (congrArg (upd a_length 8) e1) (nm_r e2 ⟨pk_in (320 + n) 360 (by omega), nm_r (up_cl (by omega) (bs_nb (by omega))) ?_⟩)
  have k103 : kd = 2 ∨ kd = 4 → wX_token_103 post w (nI (320 + n)) f_root f_used f_counted f_sorted f_put a_names a_values a_parent a_first a_next a_place a_nodeAt a_end a_up a_children a_above a_named a_valueAt (upd a_kinds (320 + n) (nI kd)) a_vals a_types a_behind a_local (upd a_length 8 (nI (n + 1))) a_open a_table a_results a_known a_along a_stack a_match a_priority a_out a_on a_matched a_chosen a_waiting a_depths a_outputs := by
    intro z
    refine ⟨pk_in (320 + n) 360 (by omega), nm_r (up_cl (by omega) rfl) ?_⟩
    rw [if_pos z] at hp
    have : upd a_length 8 (nI (n + 1)) 8 = nI (n + 1) := pk_us
    rw [this]; exact hp
  refine pk_eq kd 2 (fun z => k103 (Or.inl z)) (fun z => pk_eq kd 4 (fun y => k103 (Or.inr y)) (fun y => ⟨pk_in (320 + n) 360 (by omega), nm_r (up_cl (by omega) rfl) ?_⟩))
  rw [if_neg (by omega)] at hp
  have : upd a_length 8 (nI (n + 1)) 8 = nI (n + 1) := pk_us
  rw [this]; exact hp
end
section
variable {g_count g_top g_listed g_outputs : Int32} {b_row b_depth b_name b_value b_moved b_kind b_with b_length b_sets b_fresh b_type b_number b_set b_list b_there b_match b_priority b_out b_on b_todo b_within b_output : Nat → Int32}
theorem ty_token54 {post : Int32 → SY → Prop} {n kd : Nat} {w : Int32} (hn : n < 40) (hk : kd ≤ 17) (hl : b_length 8 = nI n)
    (hp : post (nI (n + 1)) (g_count, g_top, g_listed, g_outputs, b_row, b_depth, b_name, b_value, b_moved, upd b_kind (320 + n) (nI kd), upd b_with (320 + n) w, upd b_length 8 (nI (n + 1)), b_sets, b_fresh, b_type, b_number, b_set, b_list, b_there, b_match, b_priority, b_out, b_on, b_todo, b_within, b_output)) : wY_token_54 post (nI kd) w 1 g_count g_top g_listed g_outputs b_row b_depth b_name b_value b_moved b_kind b_with b_length b_sets b_fresh b_type b_number b_set b_list b_there b_match b_priority b_out b_on b_todo b_within b_output := by
  have e2 : (320 : Int32) + b_length 8 = nI (320 + n) := by rw [hl]; exact x320 n
  have e1 : b_length 8 + 1 = nI (n + 1) := by rw [hl]; exact nI_1 n
  unfold wY_token_54
  refine ty_inN (a := 0) (b := 17) (by omega) (by omega) (by omega) (fun _ => br_f (by decide) (br_f (by decide) (br_f ?_ ⟨pk_in (320 + n) 360 (by omega) e2, nm_r (up_n e2 (by omega) rfl) ⟨pk_in (320 + n) 360 (by omega) e2, nm_r (up_n e2 (by omega) rfl) (nm_r (congrArg (upd b_length 8) e1) ?_)⟩⟩))) (fun z => by omega)
  · rw [hl]
    exact fun e => by have := (nI_eq (b := 40) (by omega) (by omega)).mp e; omega
  · have : upd b_length 8 (nI (n + 1)) 8 = nI (n + 1) := pk_us
    rw [this]; exact hp
end
theorem i_vc_token {k : Nat} {u : SX} {v : SY} (I : i_Rel k u v) (hk : k + 6 ≤ 3072) (v1 : Int32) (v2 : Int32) : wpX_token (fun r u' => wpY_token (fun r' v' => r' = r ∧ i_Rel (k + 6) u' v') v v1 v2) u v1 v2 := by
  obtain ⟨f_root, f_used, f_counted, f_sorted, f_put, a_names, a_values, a_parent, a_first, a_next, a_place, a_nodeAt, a_end, a_up, a_children, a_above, a_named, a_valueAt, a_kinds, a_vals, a_types, a_behind, a_local, a_length, a_open, a_table, a_results, a_known, a_along, a_stack, a_match, a_priority, a_out, a_on, a_matched, a_chosen, a_waiting, a_depths, a_outputs⟩ := u
  obtain ⟨g_count, g_top, g_listed, g_outputs, b_row, b_depth, b_name, b_value, b_moved, b_kind, b_with, b_length, b_sets, b_fresh, b_type, b_number, b_set, b_list, b_there, b_match, b_priority, b_out, b_on, b_todo, b_within, b_output⟩ := v
  have I0 := i_up I
  obtain ⟨c, r, D, nm, va, ln, KK, VV, nd, KD, VD, mo, oo, no, W, TX, TY, EE, TM, CC, OO⟩ := I
  obtain ⟨E1, E2, E3, E4, E5, E6, E7⟩ := EE
  by_cases hkd : ∃ kd, kd ≤ 17 ∧ v1 = nI kd
  · obtain ⟨kd, hkd, rfl⟩ := hkd
    by_cases h40 : nd = 40
    · -- the draft is full
      have lx : a_length 8 = 40 := by rw [E5, h40]; rfl
      have ly : b_length 8 = 40 := by rw [E6, h40]; rfl
      refine pk_lt kd 0 (fun z => by omega) (fun _ => pk_lt 17 kd (fun z => by omega) (fun _ => br_t lx ?_))
      have k54 : ∀ z0 : Int32, wY_token_54 (fun r' v' => r' = -1 ∧ i_Rel (k + 6) (f_root, f_used, f_counted, f_sorted, f_put, a_names, a_values, a_parent, a_first, a_next, a_place, a_nodeAt, a_end, a_up, a_children, a_above, a_named, a_valueAt, a_kinds, a_vals, a_types, a_behind, a_local, a_length, a_open, a_table, a_results, a_known, a_along, a_stack, a_match, a_priority, a_out, a_on, a_matched, a_chosen, a_waiting, a_depths, a_outputs) v') (nI kd) v2 z0 g_count g_top g_listed g_outputs b_row b_depth b_name b_value b_moved b_kind b_with b_length b_sets b_fresh b_type b_number b_set b_list b_there b_match b_priority b_out b_on b_todo b_within b_output := by
        intro z0
        unfold wY_token_54
        refine ty_inN (a := 0) (b := 17) (by omega) (by omega) (by omega) (fun _ => br_f (by decide) ?_) (fun z => by omega)
        by_cases z : z0 = 0
        · exact br_t z ⟨rfl, I0⟩
        · exact br_f z (br_t ly ⟨rfl, I0⟩)
      have kin : ∀ (x lo hi : Int32) (P : Int32 → Prop), P 0 → P 1 → wpY_in P x lo hi := by
        intro x lo hi P p0 p1
        by_cases z : x < lo
        · exact br_t z p0
        · by_cases y : hi < x
          · exact br_f z (br_t y p0)
          · exact br_f z (br_f y p1)
      refine pk_eq kd 2 (fun z => ?_) (fun z => k54 1)
      by_cases y : v2 < 0
      · exact br_t y (k54 0)
      · exact br_f y (kin _ _ _ _ (br_t rfl (k54 0)) (br_f (by decide) (kin _ _ _ _ (br_t rfl (k54 0)) (br_f (by decide) (kin _ _ _ _ (br_t rfl (k54 0)) (br_f (by decide) (k54 1)))))))
    · have hn : nd < 40 := by omega
      have lx : ¬ a_length 8 = 40 := by
        rw [E5]
        exact fun e => h40 ((nI_eq (b := 40) (by omega) (by omega)).mp e)
      -- the token is taken
      have good : ex_tok kd v2 → wX_token_62 (fun r u' => wpY_token (fun r' v' => r' = r ∧ i_Rel (k + 6) u' v') (g_count, g_top, g_listed, g_outputs, b_row, b_depth, b_name, b_value, b_moved, b_kind, b_with, b_length, b_sets, b_fresh, b_type, b_number, b_set, b_list, b_there, b_match, b_priority, b_out, b_on, b_todo, b_within, b_output) (nI kd) v2) (nI kd) v2 f_root f_used f_counted f_sorted f_put a_names a_values a_parent a_first a_next a_place a_nodeAt a_end a_up a_children a_above a_named a_valueAt a_kinds a_vals a_types a_behind a_local a_length a_open a_table a_results a_known a_along a_stack a_match a_priority a_out a_on a_matched a_chosen a_waiting a_depths a_outputs := by
        intro tok
        refine tx_token62 hn hkd E5 ?_
        have fin : wY_token_54 (fun r' v' => r' = nI (nd + 1) ∧ i_Rel (k + 6) (f_root, f_used, f_counted, f_sorted, f_put, a_names, a_values, a_parent, a_first, a_next, a_place, a_nodeAt, a_end, a_up, a_children, a_above, a_named, a_valueAt, upd a_kinds (320 + nd) (nI kd), upd a_vals (320 + nd) (if kd = 2 ∨ kd = 4 then v2 else 0), a_types, a_behind, a_local, upd a_length 8 (nI (nd + 1)), a_open, a_table, a_results, a_known, a_along, a_stack, a_match, a_priority, a_out, a_on, a_matched, a_chosen, a_waiting, a_depths, a_outputs) v') (nI kd) v2 1 g_count g_top g_listed g_outputs b_row b_depth b_name b_value b_moved b_kind b_with b_length b_sets b_fresh b_type b_number b_set b_list b_there b_match b_priority b_out b_on b_todo b_within b_output := by
          refine ty_token54 hn hkd E6 ⟨rfl, zz_mk (nd := nd + 1) (KD := fun i => if i = nd then kd else KD i) (VD := fun i => if i = nd then v2 else VD i) W TX TY ⟨E1, fun s hs => ?_, fun s hs => ?_, by omega, pk_us, pk_us, fun i hi => ?_⟩ TM CC OO⟩
          · obtain ⟨l1, l2⟩ := E2 s hs
            refine ⟨by rw [pk_un (by omega)]; exact l1, fun z => ⟨(l2 z).1, fun i hi => ?_⟩⟩
            have := E1 s
            rw [pk_un (by omega), pk_un (by omega)]
            exact (l2 z).2 i hi
          · obtain ⟨l1, l2⟩ := E3 s hs
            refine ⟨by rw [pk_un (by omega)]; exact l1, fun z => ⟨(l2 z).1, fun i hi => ?_⟩⟩
            have := E1 s
            rw [pk_un (by omega), pk_un (by omega)]
            exact (l2 z).2 i hi
          · show ex_tok (if i = nd then kd else KD i) (if i = nd then v2 else VD i) ∧ (_ = nI (if i = nd then kd else KD i) ∧ _ = (if (if i = nd then kd else KD i) = 2 ∨ (if i = nd then kd else KD i) = 4 then (if i = nd then v2 else VD i) else 0)) ∧ _ = nI (if i = nd then kd else KD i) ∧ _ = (if i = nd then v2 else VD i)
            by_cases e : i = nd
            · rw [if_pos e, if_pos e, e, pk_us, pk_us, pk_us, pk_us]
              exact ⟨tok, ⟨rfl, rfl⟩, rfl, rfl⟩
            · rw [if_neg e, if_neg e, pk_un (by omega), pk_un (by omega), pk_un (by omega), pk_un (by omega)]
              exact E7 i (by omega)
        refine pk_eq kd 2 (fun z => ?_) (fun z => fin)
        obtain ⟨t1, t2, t3, t4⟩ := tok.2 z
        generalize hw : v2.toNatClampNeg = w at *
        subst t1
        have e15 : nI w &&& 15 = nI (w % 16) := pk_andN (by omega) 4 (by decide)
        have e7 : (nI w >>> ((4 : Int32) &&& 31)) &&& 7 = nI (w / 16 % 8) := by
          rw [pk_shrN (by omega) ((4 : Int32) &&& 31) 4 (by decide)]
          exact pk_andN (by omega) 3 (by decide)
        have e8 : nI w >>> ((7 : Int32) &&& 31) = nI (w / 128) := pk_shrN (by omega) ((7 : Int32) &&& 31) 7 (by decide)
        refine br_f (nI_pos (by omega)) (ek_v (P := fun q => wpY_in _ q 0 10) e15 (ty_inN (a := 0) (b := 10) (by omega) (by omega) (by omega) (fun _ => br_f (by decide) (ek_v (P := fun q => wpY_in _ q 0 6) e7 (ty_inN (a := 0) (b := 6) (by omega) (by omega) (by omega) (fun _ => br_f (by decide) (ek_v (P := fun q => wpY_in _ q 0 2) e8 (ty_inN (a := 0) (b := 2) (by omega) (by omega) (by omega) (fun _ => br_f (by decide) fin) (fun y => by omega)))) (fun y => by omega)))) (fun y => by omega)))
      refine pk_lt kd 0 (fun z => by omega) (fun _ => pk_lt 17 kd (fun z => by omega) (fun _ => br_f lx (pk_eq kd 2 (fun z => ?_) (fun z => good ⟨hkd, fun y => absurd y z⟩))))
      -- a STEP
      have bad53 : wY_token_53 (fun r' v' => r' = -1 ∧ i_Rel (k + 6) (f_root, f_used, f_counted, f_sorted, f_put, a_names, a_values, a_parent, a_first, a_next, a_place, a_nodeAt, a_end, a_up, a_children, a_above, a_named, a_valueAt, a_kinds, a_vals, a_types, a_behind, a_local, a_length, a_open, a_table, a_results, a_known, a_along, a_stack, a_match, a_priority, a_out, a_on, a_matched, a_chosen, a_waiting, a_depths, a_outputs) v') (nI kd) v2 g_count g_top g_listed g_outputs b_row b_depth b_name b_value b_moved b_kind b_with b_length b_sets b_fresh b_type b_number b_set b_list b_there b_match b_priority b_out b_on b_todo b_within b_output := by
        unfold wY_token_53 wY_token_54
        exact ty_inN (a := 0) (b := 17) (by omega) (by omega) (by omega) (fun _ => br_f (by decide) (br_t rfl ⟨rfl, I0⟩)) (fun z => by omega)
      by_cases hneg : v2 < 0
      · exact br_t hneg (br_t (by rw [z]; rfl) (br_t hneg bad53))
      · obtain ⟨w, hwb, rfl⟩ := nI_of hneg
        have e15 : nI w &&& 15 = nI (w % 16) := pk_andN (by omega) 4 (by decide)
        have e7 : (nI w >>> ((4 : Int32) &&& 31)) &&& 7 = nI (w / 16 % 8) := by
          rw [pk_shrN (by omega) ((4 : Int32) &&& 31) 4 (by decide)]
          exact pk_andN (by omega) 3 (by decide)
        have e8 : nI w >>> ((7 : Int32) &&& 31) = nI (w / 128) := pk_shrN (by omega) ((7 : Int32) &&& 31) 7 (by decide)
        have cw : (nI w).toNatClampNeg = w := nI_clamp hwb
        have bad : ¬ (w < 384 ∧ w % 16 ≤ 10 ∧ w / 16 % 8 ≤ 6) → wpY_token (fun r' v' => r' = -1 ∧ i_Rel (k + 6) (f_root, f_used, f_counted, f_sorted, f_put, a_names, a_values, a_parent, a_first, a_next, a_place, a_nodeAt, a_end, a_up, a_children, a_above, a_named, a_valueAt, a_kinds, a_vals, a_types, a_behind, a_local, a_length, a_open, a_table, a_results, a_known, a_along, a_stack, a_match, a_priority, a_out, a_on, a_matched, a_chosen, a_waiting, a_depths, a_outputs) v') (g_count, g_top, g_listed, g_outputs, b_row, b_depth, b_name, b_value, b_moved, b_kind, b_with, b_length, b_sets, b_fresh, b_type, b_number, b_set, b_list, b_there, b_match, b_priority, b_out, b_on, b_todo, b_within, b_output) (nI kd) (nI w) := by
          intro hb
          refine br_t (by rw [z]; rfl) (br_f hneg (ek_v (P := fun q => wpY_in _ q 0 10) e15 (ty_inN (a := 0) (b := 10) (by omega) (by omega) (by omega) (fun y1 => br_f (by decide) (ek_v (P := fun q => wpY_in _ q 0 6) e7 (ty_inN (a := 0) (b := 6) (by omega) (by omega) (by omega) (fun y2 => br_f (by decide) (ek_v (P := fun q => wpY_in _ q 0 2) e8 (ty_inN (a := 0) (b := 2) (by omega) (by omega) (by omega) (fun y3 => ?_) (fun _ => br_t rfl bad53)))) (fun _ => br_t rfl bad53)))) (fun _ => br_t rfl bad53))))
          exact absurd ⟨by omega, by omega, by omega⟩ hb
        refine br_f hneg (pk_lt 383 w (fun y => bad (by omega)) (fun y => pk_lt 10 (w % 16) (fun y2 => bad (by omega)) (fun y2 => pk_le (w / 16 % 8) 6 (fun y3 => good ⟨hkd, fun _ => ⟨by rw [cw], by rw [cw]; omega, by rw [cw]; omega, by rw [cw]; omega⟩⟩) (fun y3 => bad (by omega)) e7) rfl e15))
  · have hkd' : ∀ a, a ≤ 17 → v1 ≠ nI a := fun a h e => hkd ⟨a, h, e⟩
    have n2 : ¬ v1 = 2 := fun e => hkd' 2 (by omega) e
    have hy : wpY_token (fun r' v' => r' = -1 ∧ i_Rel (k + 6) (f_root, f_used, f_counted, f_sorted, f_put, a_names, a_values, a_parent, a_first, a_next, a_place, a_nodeAt, a_end, a_up, a_children, a_above, a_named, a_valueAt, a_kinds, a_vals, a_types, a_behind, a_local, a_length, a_open, a_table, a_results, a_known, a_along, a_stack, a_match, a_priority, a_out, a_on, a_matched, a_chosen, a_waiting, a_depths, a_outputs) v') (g_count, g_top, g_listed, g_outputs, b_row, b_depth, b_name, b_value, b_moved, b_kind, b_with, b_length, b_sets, b_fresh, b_type, b_number, b_set, b_list, b_there, b_match, b_priority, b_out, b_on, b_todo, b_within, b_output) v1 v2 := by
      refine br_f n2 ?_
      unfold wY_token_49 wY_token_54
      exact ty_in0 (b := 17) (by omega) hkd' (br_t rfl ⟨rfl, I0⟩)
    by_cases h0 : v1 < 0
    · exact br_t h0 hy
    · obtain ⟨j, hj, rfl⟩ := nI_of h0
      refine br_f h0 (pk_lt 17 j (fun _ => hy) (fun z => ?_))
      exact absurd rfl (hkd' j z)
section
variable {n : Nat} {K : Nat → Nat} {V : Nat → Int32} {f_root f_used f_counted f_sorted f_put : Int32} {a_names a_values a_parent a_first a_next a_place a_nodeAt a_end a_up a_children a_above a_named a_valueAt a_kinds a_vals a_types a_behind a_local a_length a_open a_table a_results a_known a_along a_stack a_match a_priority a_out a_on a_matched a_chosen a_waiting a_depths a_outputs : Nat → Int32}
theorem tx_expr43 {s : Nat} (hs : s < 8) (hn : n ≤ 40) (hn0 : 0 < n) (S : xx_sl 320 n K V a_kinds a_vals a_types a_behind a_local) {post : Int32 → SX → Prop}
    (hp : ∀ kinds vals types behind loc, xx_sl (40 * s) n K V kinds vals types behind loc → (∀ q, q < 40 * s ∨ 40 * s + n ≤ q → kinds q = a_kinds q ∧ vals q = a_vals q ∧ types q = a_types q ∧ behind q = a_behind q ∧ loc q = a_local q) →
      post (nI (ex_ty (K 0))) (f_root, f_used, f_counted, 0, f_put, a_names, a_values, a_parent, a_first, a_next, a_place, a_nodeAt, a_end, a_up, a_children, a_above, a_named, a_valueAt, kinds, vals, types, behind, loc, upd a_length s (nI n), a_open, a_table, a_results, upd a_known s 0, a_along, a_stack, a_match, a_priority, a_out, a_on, a_matched, a_chosen, a_waiting, a_depths, a_outputs))
    (htk : ∀ i, i < n → K i ≤ 17) (hB : ∀ i, i < n → ex_B n K V i ≤ n) :
    ∀ d j kinds vals types behind loc, j + d = n → (∀ i, i < j → kinds (40 * s + i) = a_kinds (320 + i) ∧ vals (40 * s + i) = a_vals (320 + i) ∧ types (40 * s + i) = a_types (320 + i) ∧ behind (40 * s + i) = a_behind (320 + i) ∧ loc (40 * s + i) = a_local (320 + i)) →
      (∀ q, q < 40 * s ∨ 40 * s + j ≤ q → kinds q = a_kinds q ∧ vals q = a_vals q ∧ types q = a_types q ∧ behind q = a_behind q ∧ loc q = a_local q) →
      wX_expression_43 post (nI s) (nI n) f_root f_used f_counted f_sorted f_put (d + 1) (nI j) a_names a_values a_parent a_first a_next a_place a_nodeAt a_end a_up a_children a_above a_named a_valueAt kinds vals types behind loc a_length a_open a_table a_results a_known a_along a_stack a_match a_priority a_out a_on a_matched a_chosen a_waiting a_depths a_outputs := by
  intro d
  induction d with
  | zero =>
    intro j kinds vals types behind loc hj h1 h2
    have ej : j = n := by omega
    subst ej
    have S' : xx_sl (40 * s) j K V kinds vals types behind loc := by
      intro i hi
      obtain ⟨a1, a2, a3, a4, a5⟩ := h1 i hi
      rw [a1, a2, a3, a4, a5]
      exact S i hi
    have e40 := x40 s
    have et : types ((40 : Int32) * nI s).toNatClampNeg = nI (ex_ty (K 0)) := by rw [cl_n e40 (by omega)]; exact (S' 0 hn0).2.2.1
    have h := hp kinds vals types behind loc S' h2
    rw [← et] at h
    exact pk_le j j (fun _ => ⟨pk_in s 9 (by omega), nm_r (up_cl (by omega) (bs_nb (by omega))) ⟨pk_in s 8 hs, nm_r (up_cl (by omega) bs_bool0) ⟨pk_in (40 * s) 360 (by omega) e40, h⟩⟩⟩) (fun z => by omega)
  | succ d ih =>
    intro j kinds vals types behind loc hj h1 h2
    have hj' : j < n := by omega
    have e5 : (40 : Int32) * nI s + nI j = nI (40 * s + j) := by rw [x40, nI_add]
    have v5 : vp_in (nI (40 * s + j)) 360 := pk_in (40 * s + j) 360 (by omega)
    have v3 : vp_in ((320 : Int32) + nI j) 360 := pk_in (320 + j) 360 (by omega) (x320 j)
    have c3 : ((320 : Int32) + nI j).toNatClampNeg = 320 + j := cl_n (x320 j) (by omega)
    obtain ⟨s1, s2, s3, s4, s5⟩ := S j hj'
    obtain ⟨g1, g2, g3, g4, g5⟩ := h2 (320 + j) (by omega)
    have k17 := htk j hj'
    have hBj := hB j hj'
    have hty := ex_ty_le (K j)
    have f1 : vp_nar .byte (kinds ((320 : Int32) + nI j).toNatClampNeg) = a_kinds (320 + j) := by rw [c3, g1, s1]; exact bs_nar_byte (by omega)
    have f2 : vals ((320 : Int32) + nI j).toNatClampNeg = a_vals (320 + j) := by rw [c3, g2]
    have f3 : vp_nar .byte (types ((320 : Int32) + nI j).toNatClampNeg) = a_types (320 + j) := by rw [c3, g3, s3]; exact bs_nar_byte (by omega)
    have f4 : vp_nar .byte (behind ((320 : Int32) + nI j).toNatClampNeg) = a_behind (320 + j) := by rw [c3, g4, s4]; exact bs_nar_byte (by omega)
    have f5 : vp_nar .boolean (loc ((320 : Int32) + nI j).toNatClampNeg) = a_local (320 + j) := by rw [c3, g5, s5]; exact lb_nar _
    refine pk_le n j (fun z => by omega) (fun _ => nm_r e5 ⟨v3, v5, nm_r (up_cl (by omega) f1) ⟨v3, v5, nm_r (up_cl (by omega) f2) ⟨v3, v5, nm_r (up_cl (by omega) f3) ⟨v3, v5, nm_r (up_cl (by omega) f4) ⟨v3, v5, nm_r (up_cl (by omega) f5) (nm_r (nI_1 j) (ih (j + 1) _ _ _ _ _ (by omega) (fun i hi => ?_) (fun q hq => ?_)))⟩⟩⟩⟩⟩)
    · by_cases e : i = j
      · rw [e, pk_us, pk_us, pk_us, pk_us, pk_us]; exact ⟨rfl, rfl, rfl, rfl, rfl⟩
      · rw [pk_un (by omega), pk_un (by omega), pk_un (by omega), pk_un (by omega), pk_un (by omega)]; exact h1 i (by omega)
    · rw [pk_un (by omega), pk_un (by omega), pk_un (by omega), pk_un (by omega), pk_un (by omega)]; exact h2 q (by omega)
end
section
variable {n : Nat} {K : Nat → Nat} {V : Nat → Int32} {g_count g_top g_listed g_outputs : Int32} {b_row b_depth b_name b_value b_moved b_kind b_with b_length b_sets b_fresh b_type b_number b_set b_list b_there b_match b_priority b_out b_on b_todo b_within b_output : Nat → Int32}
theorem ty_expr68 {s : Nat} (hs : s < 8) (hn : n ≤ 40) (hn0 : 0 < n) (S : yy_sl 320 n K V b_kind b_with) (hk17 : K 0 ≤ 17) {post : Int32 → SY → Prop}
    (hp : ∀ kind wit, yy_sl (40 * s) n K V kind wit → (∀ q, q < 40 * s ∨ 40 * s + n ≤ q → kind q = b_kind q ∧ wit q = b_with q) → post (nI (ex_ty (K 0))) (g_count, g_top, g_listed, g_outputs, b_row, b_depth, b_name, b_value, b_moved, kind, wit, b_length, b_sets, upd b_fresh s 0, b_type, b_number, b_set, b_list, b_there, b_match, b_priority, b_out, b_on, b_todo, b_within, b_output)) :
    ∀ d j kind wit, j + d = n → (∀ i, i < j → kind (40 * s + i) = b_kind (320 + i) ∧ wit (40 * s + i) = b_with (320 + i)) → (∀ q, q < 40 * s ∨ 40 * s + j ≤ q → kind q = b_kind q ∧ wit q = b_with q) →
      wY_expression_68 post (nI s) (nI n) g_count g_top g_listed g_outputs (d + 1) (nI j) b_row b_depth b_name b_value b_moved kind wit b_length b_sets b_fresh b_type b_number b_set b_list b_there b_match b_priority b_out b_on b_todo b_within b_output := by
  intro d
  induction d with
  | zero =>
    intro j kind wit hj h1 h2
    have ej : j = n := by omega
    subst ej
    have S' : yy_sl (40 * s) j K V kind wit := by
      intro i hi
      obtain ⟨a1, a2⟩ := h1 i hi
      rw [a1, a2]
      exact S i hi
    have ek : kind 320 = nI (K 0) := by rw [(h2 320 (by omega)).1]; exact (S 0 hn0).1
    exact pk_le j j (fun _ => ⟨pk_in s 8 hs, nm_r (up_cl (by omega) bs_bool0) (ek_v (P := fun w => wpY_typeOf _ w) ek (ty_typeOf hk17 (hp kind wit S' h2)))⟩) (fun z => by omega)
  | succ d ih =>
    intro j kind wit hj h1 h2
    have e5 : (40 : Int32) * nI s + nI j = nI (40 * s + j) := by rw [x40, nI_add]
    have v5 : vp_in ((40 : Int32) * nI s + nI j) 360 := pk_in (40 * s + j) 360 (by omega) e5
    have v3 : vp_in ((320 : Int32) + nI j) 360 := pk_in (320 + j) 360 (by omega) (x320 j)
    have c3 : ((320 : Int32) + nI j).toNatClampNeg = 320 + j := cl_n (x320 j) (by omega)
    obtain ⟨g1, g2⟩ := h2 (320 + j) (by omega)
    refine pk_le n j (fun z => by omega) (fun _ => ⟨v3, v5, nm_r (up_n e5 (by omega) (y := b_kind (320 + j)) (by rw [c3, g1])) ⟨v3, v5, nm_r (up_n e5 (by omega) (y := b_with (320 + j)) (by rw [c3, g2])) (nm_r (nI_1 j) (ih (j + 1) _ _ (by omega) (fun i hi => ?_) (fun q hq => ?_)))⟩⟩)
    · by_cases e : i = j
      · rw [e, pk_us, pk_us]; exact ⟨rfl, rfl⟩
      · rw [pk_un (by omega), pk_un (by omega)]; exact h1 i (by omega)
    · rw [pk_un (by omega), pk_un (by omega)]; exact h2 q (by omega)
end
theorem i_vc_expression {k : Nat} {u : SX} {v : SY} (I : i_Rel k u v) (hk : k + 6 ≤ 3072) (v1 : Int32) : wpX_expression (fun r u' => wpY_expression (fun r' v' => r' = r ∧ i_Rel (k + 6) u' v') v v1) u v1 := by
  obtain ⟨f_root, f_used, f_counted, f_sorted, f_put, a_names, a_values, a_parent, a_first, a_next, a_place, a_nodeAt, a_end, a_up, a_children, a_above, a_named, a_valueAt, a_kinds, a_vals, a_types, a_behind, a_local, a_length, a_open, a_table, a_results, a_known, a_along, a_stack, a_match, a_priority, a_out, a_on, a_matched, a_chosen, a_waiting, a_depths, a_outputs⟩ := u
  obtain ⟨g_count, g_top, g_listed, g_outputs, b_row, b_depth, b_name, b_value, b_moved, b_kind, b_with, b_length, b_sets, b_fresh, b_type, b_number, b_set, b_list, b_there, b_match, b_priority, b_out, b_on, b_todo, b_within, b_output⟩ := v
  have I0 := i_up I
  obtain ⟨c, r, D, nm, va, ln, KK, VV, nd, KD, VD, mo, oo, no, W, TX, TY, EE, TM, CC, OO⟩ := I
  obtain ⟨E1, E2, E3, E4, E5, E6, E7⟩ := EE
  by_cases hs : ∃ s, s ≤ 7 ∧ v1 = nI s
  · obtain ⟨s, hs, rfl⟩ := hs
    have z8 : vp_nar .byte 0 = nI 0 := bs_nar_byte (n := 0) (by omega)
    refine pk_lt s 0 (fun z => by omega) (fun _ => pk_le s 7 (fun _ => ?_) (fun z => by omega))
    refine tx_read E4 E5 (fun i hi => ⟨(E7 i hi).1, (E7 i hi).2.1⟩) (fun ty be lo op hE hT hF => ?_) (fun ty be lo op hE hF => ?_)
    · -- one expression
      have hn0 := hE.1
      have tok0 := hE.2.2.2.1 0 hn0
      refine nm_r E5 (nm_r (congrArg (upd a_length 8) z8) (br_f (by decide) ?_))
      have S0 : xx_sl 320 nd KD VD a_kinds a_vals ty be lo := by
        intro i hi
        obtain ⟨t1, t2, t3, t4⟩ := hT i (by omega) hi
        obtain ⟨q1, ⟨q2, q3⟩, q4⟩ := E7 i hi
        exact ⟨q2, q3, t1, t2, t3⟩
      have SY0 : yy_sl 320 nd KD VD b_kind b_with := fun i hi => (E7 i hi).2.2
      have h := tx_expr43 (f_root := f_root) (f_used := f_used) (f_counted := f_counted) (f_sorted := f_sorted) (f_put := f_put) (a_names := a_names) (a_values := a_values) (a_parent := a_parent) (a_first := a_first) (a_next := a_next) (a_place := a_place) (a_nodeAt := a_nodeAt) (a_end := a_end) (a_up := a_up) (a_children := a_children) (a_above := a_above) (a_named := a_named) (a_valueAt := a_valueAt) (a_length := upd a_length 8 (nI 0)) (a_open := op) (a_table := a_table) (a_results := a_results) (a_known := a_known) (a_along := a_along) (a_stack := a_stack) (a_match := a_match) (a_priority := a_priority) (a_out := a_out) (a_on := a_on) (a_matched := a_matched) (a_chosen := a_chosen) (a_waiting := a_waiting) (a_depths := a_depths) (a_outputs := a_outputs) (post := fun r u' => wpY_expression (fun r' v' => r' = r ∧ i_Rel (k + 6) u' v') (g_count, g_top, g_listed, g_outputs, b_row, b_depth, b_name, b_value, b_moved, b_kind, b_with, b_length, b_sets, b_fresh, b_type, b_number, b_set, b_list, b_there, b_match, b_priority, b_out, b_on, b_todo, b_within, b_output) (nI s)) (s := s) (by omega) E4 hn0 S0 (fun kinds vals types behind loc S1 F1 => ?_) (fun i hi => (hE.2.2.2.1 i hi).1) (fun i hi => (hE.2.2.2.2 i hi).1) nd 0 a_kinds a_vals ty be lo (by omega) (fun i hi => by omega) (fun q _ => ⟨rfl, rfl, rfl, rfl, rfl⟩)
      · rw [nI_0] at h
        exact ⟨_, h⟩
      · unfold wpY_expression
        refine ty_inN (a := 0) (b := 7) (by omega) (by omega) (by omega) (fun _ => br_f (by decide) (br_f ?_ (ty_whole E4 E6 (fun i hi => ⟨(E7 i hi).1, (E7 i hi).2.2⟩) (fun tp ty' _ => br_f (by decide) ?_) (fun tp ty' hn => absurd hE hn)))) (fun z => by omega)
        · rw [E6]; exact nI_nle (by omega) (by omega)
        · unfold wY_expression_34
          refine nm_r E6 (nm_e (br_f (by decide) ⟨pk_in s 9 (by omega), nm_r (up_cl (by omega) rfl) ?_⟩))
          have h2 := ty_expr68 (n := nd) (K := KD) (V := VD) (g_count := g_count) (g_top := tp) (g_listed := g_listed) (g_outputs := g_outputs) (b_row := b_row) (b_depth := b_depth) (b_name := b_name) (b_value := b_value) (b_moved := b_moved) (b_length := upd (upd b_length 8 0) s (nI nd)) (b_sets := b_sets) (b_fresh := b_fresh) (b_type := ty') (b_number := b_number) (b_set := b_set) (b_list := b_list) (b_there := b_there) (b_match := b_match) (b_priority := b_priority) (b_out := b_out) (b_on := b_on) (b_todo := b_todo) (b_within := b_within) (b_output := b_output) (s := s) (by omega) E4 hn0 SY0 tok0.1 (post := fun r' v' => r' = nI (ex_ty (KD 0)) ∧ i_Rel (k + 6) (f_root, f_used, f_counted, 0, f_put, a_names, a_values, a_parent, a_first, a_next, a_place, a_nodeAt, a_end, a_up, a_children, a_above, a_named, a_valueAt, kinds, vals, types, behind, loc, upd (upd a_length 8 (nI 0)) s (nI nd), op, a_table, a_results, upd a_known s 0, a_along, a_stack, a_match, a_priority, a_out, a_on, a_matched, a_chosen, a_waiting, a_depths, a_outputs) v') (fun kind wit S2 F2 => ⟨rfl, ?_⟩) nd 0 b_kind b_with (by omega) (fun i hi => by omega) (fun q _ => ⟨rfl, rfl⟩)
          · rw [nI_0] at h2
            exact ⟨_, h2⟩
          · have elo : ∀ t, t < 8 → t ≠ s → ∀ i, i < ln t → (40 * t + i < 40 * s ∨ 40 * s + nd ≤ 40 * t + i) := by
              intro t ht hts i hi
              have := E1 t
              omega
            refine zz_mk (ln := fun t => if t = s then nd else ln t) (KK := fun t => if t = s then KD else KK t) (VV := fun t => if t = s then VD else VV t) (nd := 0) (KD := fun _ => 0) (VD := fun _ => 0) W TX TY ⟨fun t => ?_, fun t ht => ?_, fun t ht => ?_, by omega, ?_, ?_, fun i hi => by omega⟩ TM ⟨CC.1, fun t ht hkt x hx => ?_, fun z => absurd rfl z, fun t ht hft hlt => ?_⟩ OO
            · show (if t = s then nd else ln t) ≤ 40
              by_cases e : t = s
              · rw [if_pos e]; exact E4
              · rw [if_neg e]; exact E1 t
            · by_cases e : t = s
              · subst e
                simp only [if_pos rfl]
                exact ⟨pk_us, fun _ => ⟨hE, S1⟩⟩
              · simp only [if_neg e]
                obtain ⟨l1, l2⟩ := E2 t ht
                refine ⟨by rw [pk_un e, pk_un (by omega)]; exact l1, fun z => ⟨(l2 z).1, fun i hi => ?_⟩⟩
                obtain ⟨q1, q2, q3, q4, q5⟩ := F1 (40 * t + i) (elo t ht e i hi)
                have := E1 t
                obtain ⟨w1, w2, w3⟩ := hF (40 * t + i) (by omega)
                rw [q1, q2, q3, q4, q5, w1, w2, w3]
                exact (l2 z).2 i hi
            · by_cases e : t = s
              · subst e
                simp only [if_pos rfl]
                exact ⟨pk_us, fun _ => ⟨hE, S2⟩⟩
              · simp only [if_neg e]
                obtain ⟨l1, l2⟩ := E3 t ht
                refine ⟨by rw [pk_un e, pk_un (by omega)]; exact l1, fun z => ⟨(l2 z).1, fun i hi => ?_⟩⟩
                obtain ⟨q1, q2⟩ := F2 (40 * t + i) (elo t ht e i hi)
                rw [q1, q2]
                exact (l2 z).2 i hi
            · rw [pk_un (by omega), pk_us]
            · rw [pk_un (by omega), pk_us]; rfl
            · have e : t ≠ s := fun e => hkt (by rw [e, pk_us])
              rw [pk_un e] at hkt
              show _ = sm_ev c D nm va (if t = s then nd else ln t) (if t = s then KD else KK t) (if t = s then VD else VV t) 0 x 1 1
              rw [if_neg e, if_neg e, if_neg e]
              exact CC.2.1 t ht hkt x hx
            · have e : t ≠ s := fun e => hft (by rw [e, pk_us])
              rw [pk_un e] at hft
              have hlt : 0 < (if t = s then nd else ln t) := hlt
              rw [if_neg e] at hlt
              show yy_st c r D nm va (40 * t) (if t = s then nd else ln t) (if t = s then KD else KK t) (if t = s then VD else VV t) 0 b_sets
              rw [if_neg e, if_neg e, if_neg e]
              exact CC.2.2.2 t ht hft hlt
    · -- no expression
      refine nm_r E5 (nm_r (congrArg (upd a_length 8) z8) (br_t rfl ?_))
      have zm : i_Rel (k + 6) (f_root, f_used, f_counted, f_sorted, f_put, a_names, a_values, a_parent, a_first, a_next, a_place, a_nodeAt, a_end, a_up, a_children, a_above, a_named, a_valueAt, a_kinds, a_vals, ty, be, lo, upd a_length 8 (nI 0), op, a_table, a_results, a_known, a_along, a_stack, a_match, a_priority, a_out, a_on, a_matched, a_chosen, a_waiting, a_depths, a_outputs) (g_count, g_top, g_listed, g_outputs, b_row, b_depth, b_name, b_value, b_moved, b_kind, b_with, upd b_length 8 0, b_sets, b_fresh, b_type, b_number, b_set, b_list, b_there, b_match, b_priority, b_out, b_on, b_todo, b_within, b_output) := by
        refine zz_mk (nd := 0) (KD := fun _ => 0) (VD := fun _ => 0) W TX TY ⟨E1, fun t ht => ?_, fun t ht => ?_, by omega, pk_us, pk_us, fun i hi => by omega⟩ TM CC OO
        · obtain ⟨l1, l2⟩ := E2 t ht
          refine ⟨by rw [pk_un (by omega)]; exact l1, fun z => ⟨(l2 z).1, fun i hi => ?_⟩⟩
          have := E1 t
          obtain ⟨w1, w2, w3⟩ := hF (40 * t + i) (by omega)
          rw [w1, w2, w3]
          exact (l2 z).2 i hi
        · obtain ⟨l1, l2⟩ := E3 t ht
          exact ⟨by rw [pk_un (by omega)]; exact l1, l2⟩
      have zm2 : ∀ tp ty', i_Rel (k + 6) (f_root, f_used, f_counted, f_sorted, f_put, a_names, a_values, a_parent, a_first, a_next, a_place, a_nodeAt, a_end, a_up, a_children, a_above, a_named, a_valueAt, a_kinds, a_vals, ty, be, lo, upd a_length 8 (nI 0), op, a_table, a_results, a_known, a_along, a_stack, a_match, a_priority, a_out, a_on, a_matched, a_chosen, a_waiting, a_depths, a_outputs) (g_count, tp, g_listed, g_outputs, b_row, b_depth, b_name, b_value, b_moved, b_kind, b_with, upd b_length 8 0, b_sets, b_fresh, ty', b_number, b_set, b_list, b_there, b_match, b_priority, b_out, b_on, b_todo, b_within, b_output) := fun tp ty' => zm
      unfold wpY_expression
      refine ty_inN (a := 0) (b := 7) (by omega) (by omega) (by omega) (fun _ => br_f (by decide) ?_) (fun z => by omega)
      by_cases hz : nd = 0
      · refine br_t (by rw [E6, hz]; decide) ?_
        unfold wY_expression_33 wY_expression_34
        exact nm_e (nm_e (br_t rfl ⟨rfl, zm⟩))
      · refine br_f (by rw [E6]; exact nI_nle (by omega) (by omega)) (ty_whole E4 E6 (fun i hi => ⟨(E7 i hi).1, (E7 i hi).2.2⟩) (fun tp ty' h => absurd h hE) (fun tp ty' _ => br_t rfl ?_))
        unfold wY_expression_33 wY_expression_34
        exact nm_e (nm_e (br_t rfl ⟨rfl, zm2 tp ty'⟩))
  · have hs' : ∀ a, a ≤ 7 → v1 ≠ nI a := fun a h e => hs ⟨a, h, e⟩
    have hy : wpY_expression (fun r' v' => r' = -1 ∧ i_Rel (k + 6) (f_root, f_used, f_counted, f_sorted, f_put, a_names, a_values, a_parent, a_first, a_next, a_place, a_nodeAt, a_end, a_up, a_children, a_above, a_named, a_valueAt, a_kinds, a_vals, a_types, a_behind, a_local, a_length, a_open, a_table, a_results, a_known, a_along, a_stack, a_match, a_priority, a_out, a_on, a_matched, a_chosen, a_waiting, a_depths, a_outputs) v') (g_count, g_top, g_listed, g_outputs, b_row, b_depth, b_name, b_value, b_moved, b_kind, b_with, b_length, b_sets, b_fresh, b_type, b_number, b_set, b_list, b_there, b_match, b_priority, b_out, b_on, b_todo, b_within, b_output) v1 := by
      unfold wpY_expression
      exact ty_in0 (b := 7) (by omega) hs' (br_t rfl ⟨rfl, I0⟩)
    by_cases h0 : v1 < 0
    · exact br_t h0 hy
    · obtain ⟨j, hj, rfl⟩ := nI_of h0
      refine br_f h0 (pk_le j 7 (fun z => ?_) (fun _ => hy))
      exact absurd rfl (hs' j z)
end
section
/-! ===== size, at, number, holds ===== -/
section
variable {c : Nat} {r D nm : Nat → Nat} {va : Nat → Int32} {ln : Nat → Nat} {KK : Nat → Nat → Nat} {VV : Nat → Nat → Int32} {f_root f_used f_counted f_sorted f_put : Int32} {a_names a_values a_parent a_first a_next a_place a_nodeAt a_end a_up a_children a_above a_named a_valueAt a_kinds a_vals a_types a_behind a_local a_length a_open a_table a_results a_known a_along a_stack a_match a_priority a_out a_on a_matched a_chosen a_waiting a_depths a_outputs : Nat → Int32}
theorem tx_isThere1 (W : tr_TW c r D nm) (TX : xx_t f_used f_root a_names a_values a_parent a_first a_next c r D nm va) (SL : xx_SL ln KK VV a_length a_kinds a_vals a_types a_behind a_local) {s x : Nat} (hs : s < 8) (hl : 0 < ln s) (hl40 : ln s ≤ 40) (hx : x < c) {post : Int32 → Prop} (hp : post 1) : wpX_isThere post (f_root, f_used, f_counted, f_sorted, f_put, a_names, a_values, a_parent, a_first, a_next, a_place, a_nodeAt, a_end, a_up, a_children, a_above, a_named, a_valueAt, a_kinds, a_vals, a_types, a_behind, a_local, a_length, a_open, a_table, a_results, a_known, a_along, a_stack, a_match, a_priority, a_out, a_on, a_matched, a_chosen, a_waiting, a_depths, a_outputs) (nI s) (nI (r x)) := by
  have el : a_length (nI s).toNatClampNeg = nI (ln s) := by rw [nI_clamp (by omega)]; exact (SL s hs).1
  exact pk_lt s 0 (fun z => by omega) (fun _ => pk_le 8 s (fun z => by omega) (fun _ => ⟨pk_in s 9 (by omega), br_f (by rw [el]; exact nI_nle hl (by omega)) (tx_isNode1 (u := (f_root, f_used, f_counted, f_sorted, f_put, a_names, a_values, a_parent, a_first, a_next, a_place, a_nodeAt, a_end, a_up, a_children, a_above, a_named, a_valueAt, a_kinds, a_vals, a_types, a_behind, a_local, a_length, a_open, a_table, a_results, a_known, a_along, a_stack, a_match, a_priority, a_out, a_on, a_matched, a_chosen, a_waiting, a_depths, a_outputs)) W TX hx (br_f (by decide) hp))⟩))
theorem tx_isThere0 (W : tr_TW c r D nm) (TX : xx_t f_used f_root a_names a_values a_parent a_first a_next c r D nm va) (SL : xx_SL ln KK VV a_length a_kinds a_vals a_types a_behind a_local) {v1 v2 : Int32} (h40 : ∀ t, ln t ≤ 40) (hn : ¬ ∃ s x, s < 8 ∧ 0 < ln s ∧ x < c ∧ v1 = nI s ∧ v2 = nI (r x)) {post : Int32 → Prop} (hp : post 0) : wpX_isThere post (f_root, f_used, f_counted, f_sorted, f_put, a_names, a_values, a_parent, a_first, a_next, a_place, a_nodeAt, a_end, a_up, a_children, a_above, a_named, a_valueAt, a_kinds, a_vals, a_types, a_behind, a_local, a_length, a_open, a_table, a_results, a_known, a_along, a_stack, a_match, a_priority, a_out, a_on, a_matched, a_chosen, a_waiting, a_depths, a_outputs) v1 v2 := by
  rcases pk_ix v1 (n := 8) (by omega) with h | h | ⟨s, hs, rfl⟩
  · exact br_t h hp
  · have h0 : ¬ v1 < 0 := fun z => by
      have a : (nI 8 : Int32) < 0 := Int32.lt_of_le_of_lt h z
      exact absurd a (by decide)
    exact br_f h0 (br_t h hp)
  · have el : a_length (nI s).toNatClampNeg = nI (ln s) := by rw [nI_clamp (by omega)]; exact (SL s hs).1
    refine pk_lt s 0 (fun z => by omega) (fun _ => pk_le 8 s (fun z => by omega) (fun _ => ⟨pk_in s 9 (by omega), ?_⟩))
    by_cases z : ln s = 0
    · exact br_t (by rw [el, z]; decide) hp
    · have := h40 s
      exact br_f (by rw [el]; exact nI_nle (by omega) (by omega)) (tx_isNode0 (u := (f_root, f_used, f_counted, f_sorted, f_put, a_names, a_values, a_parent, a_first, a_next, a_place, a_nodeAt, a_end, a_up, a_children, a_above, a_named, a_valueAt, a_kinds, a_vals, a_types, a_behind, a_local, a_length, a_open, a_table, a_results, a_known, a_along, a_stack, a_match, a_priority, a_out, a_on, a_matched, a_chosen, a_waiting, a_depths, a_outputs)) W TX (fun x hx e => hn ⟨s, x, hs, by omega, hx, rfl, e⟩) (br_t rfl hp))
theorem tx_resultAt (W : tr_TW c r D nm) (TX : xx_t f_used f_root a_names a_values a_parent a_first a_next c r D nm va)
    (hC : f_counted ≠ 0 → xx_ct c r D nm va a_place a_nodeAt a_end a_up a_children a_above a_named a_valueAt) (SL : xx_SL ln KK VV a_length a_kinds a_vals a_types a_behind a_local)
    (hR : ∀ t, t < 8 → a_known t ≠ 0 → ∀ x, x < c → a_results (24 * t + x) = sm_R c D nm va ln KK VV t x) {s x : Nat} (hs : s < 8) (hl : 0 < ln s) (hx : x < c) {post : Int32 → SX → Prop}
    (hp : ∀ (f_counted' : Int32) (a_place' a_nodeAt' a_end' a_up' a_children' a_above' a_named' a_valueAt' a_table' a_results' a_known' a_along' a_stack' : Nat → Int32), f_counted' ≠ 0 → xx_ct c r D nm va a_place' a_nodeAt' a_end' a_up' a_children' a_above' a_named' a_valueAt' → (∀ t, t < 8 → a_known' t ≠ 0 → ∀ x, x < c → a_results' (24 * t + x) = sm_R c D nm va ln KK VV t x) → post (sm_R c D nm va ln KK VV s x) (f_root, f_used, f_counted', f_sorted, f_put, a_names, a_values, a_parent, a_first, a_next, a_place', a_nodeAt', a_end', a_up', a_children', a_above', a_named', a_valueAt', a_kinds, a_vals, a_types, a_behind, a_local, a_length, a_open, a_table', a_results', a_known', a_along', a_stack', a_match, a_priority, a_out, a_on, a_matched, a_chosen, a_waiting, a_depths, a_outputs)) :
    wpX_resultAt post (f_root, f_used, f_counted, f_sorted, f_put, a_names, a_values, a_parent, a_first, a_next, a_place, a_nodeAt, a_end, a_up, a_children, a_above, a_named, a_valueAt, a_kinds, a_vals, a_types, a_behind, a_local, a_length, a_open, a_table, a_results, a_known, a_along, a_stack, a_match, a_priority, a_out, a_on, a_matched, a_chosen, a_waiting, a_depths, a_outputs) (nI s) (nI (r x)) := by
  have hc := W.1
  have hrx := W.2.1 x hx
  obtain ⟨l1, l2⟩ := SL s hs
  obtain ⟨E, S⟩ := l2 hl
  unfold wpX_resultAt
  refine tx_learn W (by omega) TX hC hs E S l1 (R := sm_R c D nm va ln KK VV) (fun x hx => rfl) hR (fun f_counted' a_place' a_nodeAt' a_end' a_up' a_children' a_above' a_named' a_valueAt' a_table' a_results' a_known' a_along' a_stack' d1 d2 d3 d4 => ⟨pk_in (r x) 24 hrx, ?_⟩)
  have ep : (24 : Int32) * nI s + a_place' (nI (r x)).toNatClampNeg = nI (24 * s + x) := by rw [nI_clamp (by omega), (d2.1 x hx).1]; exact x24 s x
  refine ⟨pk_in (24 * s + x) 192 (by omega) ep, ?_⟩
  have h := hp f_counted' a_place' a_nodeAt' a_end' a_up' a_children' a_above' a_named' a_valueAt' a_table' a_results' a_known' a_along' a_stack' d1 d2 d4
  have er : a_results' ((24 : Int32) * nI s + a_place' (nI (r x)).toNatClampNeg).toNatClampNeg = sm_R c D nm va ln KK VV s x := by rw [cl_n ep (by omega)]; exact d4 s hs d3 x hx
  rw [← er] at h
  exact h
def sm_nth (r : Nat → Nat) : List Nat → Nat → Int32
  | [], _ => -1
  | k :: _, 0 => nI (r k)
  | _ :: L, j + 1 => sm_nth r L j
theorem tx_at38 {kk : Nat} (hkb : kk < 2 ^ 31) (hna : ∀ i, i < c → a_nodeAt i = nI (r i)) (hc : c ≤ 24) {post : Int32 → SX → Prop} : ∀ (L : List Nat) (j : Nat), j ≤ kk → L.Pairwise (· < ·) → (∀ q, q ∈ L → q < c) → post (sm_nth r L (kk - j)) (f_root, f_used, f_counted, f_sorted, f_put, a_names, a_values, a_parent, a_first, a_next, a_place, a_nodeAt, a_end, a_up, a_children, a_above, a_named, a_valueAt, a_kinds, a_vals, a_types, a_behind, a_local, a_length, a_open, a_table, a_results, a_known, a_along, a_stack, a_match, a_priority, a_out, a_on, a_matched, a_chosen, a_waiting, a_depths, a_outputs) → wX_at_38 post (nI kk) f_root f_used f_counted f_sorted f_put a_names a_values a_parent a_first a_next a_place a_nodeAt a_end a_up a_children a_above a_named a_valueAt a_kinds a_vals a_types a_behind a_local a_length a_open a_table a_results a_known a_along a_stack a_match a_priority a_out a_on a_matched a_chosen a_waiting a_depths a_outputs (L.length + 1) (bs_bo L) (nI j)
  | [], j, hj, _, _, hp => by
    have h64 : wX_at_64 post (bs_bo []) f_root f_used f_counted f_sorted f_put a_names a_values a_parent a_first a_next a_place a_nodeAt a_end a_up a_children a_above a_named a_valueAt a_kinds a_vals a_types a_behind a_local a_length a_open a_table a_results a_known a_along a_stack a_match a_priority a_out a_on a_matched a_chosen a_waiting a_depths a_outputs := br_t rfl hp
    exact pk_le kk j (fun _ => h64) (fun _ => br_t rfl h64)
  | q :: L, j, hj, ha, hb, hp => by
    obtain ⟨a1, a2, a3, a4⟩ := bs_asc ha (fun i hi => by have := hb i hi; omega)
    have hq := hb q (List.mem_cons_self ..)
    refine pk_le kk j (fun z => br_f a1 (a4 _ ⟨pk_in q 24 (by omega), ?_⟩)) (fun z => br_f a1 (nm_r a2 (nm_r (nI_1 j) (tx_at38 hkb hna hc L (j + 1) (by omega) (List.pairwise_cons.mp ha).2 (fun i hi => hb i (List.mem_cons_of_mem _ hi)) ?_))))
    · rw [show kk - j = 0 by omega] at hp
      have hp : post (nI (r q)) (f_root, f_used, f_counted, f_sorted, f_put, a_names, a_values, a_parent, a_first, a_next, a_place, a_nodeAt, a_end, a_up, a_children, a_above, a_named, a_valueAt, a_kinds, a_vals, a_types, a_behind, a_local, a_length, a_open, a_table, a_results, a_known, a_along, a_stack, a_match, a_priority, a_out, a_on, a_matched, a_chosen, a_waiting, a_depths, a_outputs) := hp
      have e : a_nodeAt (nI q).toNatClampNeg = nI (r q) := by rw [nI_clamp (by omega)]; exact hna q hq
      rw [← e] at hp
      exact hp
    · rw [show kk - j = kk - (j + 1) + 1 by omega] at hp
      exact hp
end
section
variable {c : Nat} {r D nm : Nat → Nat} {va : Nat → Int32} {ln : Nat → Nat} {KK : Nat → Nat → Nat} {VV : Nat → Nat → Int32} {g_count g_top g_listed g_outputs : Int32} {b_row b_depth b_name b_value b_moved b_kind b_with b_length b_sets b_fresh b_type b_number b_set b_list b_there b_match b_priority b_out b_on b_todo b_within b_output : Nat → Int32}
theorem ty_isExpr1 (W : tr_TW c r D nm) (TY : yy_t g_count b_row b_depth b_name b_value c r D nm va) (SL : yy_SL ln KK VV b_length b_kind b_with) {s x : Nat} (hs : s < 8) (hl : 0 < ln s) (hl40 : ln s ≤ 40) (hx : x < c) {post : Int32 → Prop} (hp : post 1) : wpY_isExpression post (g_count, g_top, g_listed, g_outputs, b_row, b_depth, b_name, b_value, b_moved, b_kind, b_with, b_length, b_sets, b_fresh, b_type, b_number, b_set, b_list, b_there, b_match, b_priority, b_out, b_on, b_todo, b_within, b_output) (nI s) (nI (r x)) := by
  have hc := W.1
  have TT : yy_T (g_count, g_top, g_listed, g_outputs, b_row, b_depth, b_name, b_value, b_moved, b_kind, b_with, b_length, b_sets, b_fresh, b_type, b_number, b_set, b_list, b_there, b_match, b_priority, b_out, b_on, b_todo, b_within, b_output) c r D nm va := TY
  have el : b_length (nI s).toNatClampNeg = nI (ln s) := by rw [nI_clamp (by omega)]; exact (SL s hs).1
  unfold wpY_isExpression
  exact ty_inN (a := 0) (b := 7) (by omega) (by omega) (by omega) (fun _ => br_f (by decide) ⟨pk_in s 9 (by omega), br_f (by rw [el]; exact nI_nle hl (by omega)) (ty_where1 (v := (g_count, g_top, g_listed, g_outputs, b_row, b_depth, b_name, b_value, b_moved, b_kind, b_with, b_length, b_sets, b_fresh, b_type, b_number, b_set, b_list, b_there, b_match, b_priority, b_out, b_on, b_todo, b_within, b_output)) W TT hx (br_f (nI_pos (by omega)) hp))⟩) (fun z => by omega)
theorem ty_isExpr0 (W : tr_TW c r D nm) (TY : yy_t g_count b_row b_depth b_name b_value c r D nm va) (SL : yy_SL ln KK VV b_length b_kind b_with) {v1 v2 : Int32} (h40 : ∀ t, ln t ≤ 40) (hn : ¬ ∃ s x, s < 8 ∧ 0 < ln s ∧ x < c ∧ v1 = nI s ∧ v2 = nI (r x)) {post : Int32 → Prop} (hp : post 0) : wpY_isExpression post (g_count, g_top, g_listed, g_outputs, b_row, b_depth, b_name, b_value, b_moved, b_kind, b_with, b_length, b_sets, b_fresh, b_type, b_number, b_set, b_list, b_there, b_match, b_priority, b_out, b_on, b_todo, b_within, b_output) v1 v2 := by
  have TT : yy_T (g_count, g_top, g_listed, g_outputs, b_row, b_depth, b_name, b_value, b_moved, b_kind, b_with, b_length, b_sets, b_fresh, b_type, b_number, b_set, b_list, b_there, b_match, b_priority, b_out, b_on, b_todo, b_within, b_output) c r D nm va := TY
  unfold wpY_isExpression
  by_cases hs : ∃ s, s < 8 ∧ v1 = nI s
  · obtain ⟨s, hs, rfl⟩ := hs
    have el : b_length (nI s).toNatClampNeg = nI (ln s) := by rw [nI_clamp (by omega)]; exact (SL s hs).1
    refine ty_inN (a := 0) (b := 7) (by omega) (by omega) (by omega) (fun _ => br_f (by decide) ⟨pk_in s 9 (by omega), ?_⟩) (fun z => by omega)
    by_cases z : ln s = 0
    · exact br_t (by rw [el, z]; decide) hp
    · have := h40 s
      exact br_f (by rw [el]; exact nI_nle (by omega) (by omega)) (ty_where0 (v := (g_count, g_top, g_listed, g_outputs, b_row, b_depth, b_name, b_value, b_moved, b_kind, b_with, b_length, b_sets, b_fresh, b_type, b_number, b_set, b_list, b_there, b_match, b_priority, b_out, b_on, b_todo, b_within, b_output)) W TT (fun x hx e => hn ⟨s, x, hs, by omega, hx, rfl, e⟩) (br_t (by decide) hp))
  · exact ty_in0 (b := 7) (by omega) (fun a h e => hs ⟨a, by omega, e⟩) (br_t rfl hp)
theorem ty_at31 (W : tr_TW c r D nm) (TY : yy_t g_count b_row b_depth b_name b_value c r D nm va) {s : Int32} (hok : bs_ok c s) (hset : b_set 0 = sm_im r s) {post : Int32 → SY → Prop} : ∀ d l, l < 2 ^ 31 → d ≤ c → post (sm_nth r ((sm_sf false c d).filter (fun k => bt s k)) l) (g_count, g_top, g_listed, g_outputs, b_row, b_depth, b_name, b_value, b_moved, b_kind, b_with, b_length, b_sets, b_fresh, b_type, b_number, b_set, b_list, b_there, b_match, b_priority, b_out, b_on, b_todo, b_within, b_output) → wY_at_31 post g_count g_top g_listed g_outputs b_row b_depth b_name b_value b_moved b_kind b_with b_length b_sets b_fresh b_type b_number b_set b_list b_there b_match b_priority b_out b_on b_todo b_within b_output (d + 1) (nI l) (nI (c - d)) := by
  have hc := W.1
  intro d
  induction d with
  | zero =>
    intro l hl _ hp
    exact pk_le c (c - 0) (fun _ => hp) (fun z => by omega) TY.1
  | succ d ih =>
    intro l hl hd hp
    have hr := W.2.1 (c - (d + 1)) (by omega)
    have er : b_row (nI (c - (d + 1))).toNatClampNeg = nI (r (c - (d + 1))) := by rw [nI_clamp (by omega)]; exact (TY.2 _ (by omega)).1
    have ec : (b_set 0 >>> (b_row (nI (c - (d + 1))).toNatClampNeg &&& 31)) &&& 1 = (sm_im r s >>> (nI (r (c - (d + 1))) &&& 31)) &&& 1 := by rw [er, hset]
    have eb := im_bt hc W.2.1 W.2.2.1 hok (i := c - (d + 1)) (by omega)
    have esf : sm_sf false c (d + 1) = (c - (d + 1)) :: sm_sf false c d := rfl
    have e1 : nI (c - (d + 1)) + 1 = nI (c - d) := by rw [nI_1]; congr 1; omega
    rw [esf, List.filter_cons] at hp
    refine pk_le c (c - (d + 1)) (fun z => by omega) (fun _ => br_f (nI_pos hl) ⟨pk_in (c - (d + 1)) 24 (by omega), ?_⟩) TY.1
    by_cases y : bt s (c - (d + 1)) = true
    · rw [if_pos y] at hp
      refine br_f (fun z => by have := (bs_t0 (by omega)).mp (ec.symm.trans z); rw [eb, y] at this; exact absurd this (by decide)) (pk_eq l 0 (fun z => ⟨pk_in (c - (d + 1)) 24 (by omega), ?_⟩) (fun z => ?_))
      · subst z
        have hp : post (nI (r (c - (d + 1)))) (g_count, g_top, g_listed, g_outputs, b_row, b_depth, b_name, b_value, b_moved, b_kind, b_with, b_length, b_sets, b_fresh, b_type, b_number, b_set, b_list, b_there, b_match, b_priority, b_out, b_on, b_todo, b_within, b_output) := hp
        rw [← er] at hp
        exact hp
      · obtain ⟨l', rfl⟩ : ∃ l', l = l' + 1 := ⟨l - 1, by omega⟩
        exact nm_r (pk_m1 l') (nm_r e1 (ih l' (by omega) (by omega) hp))
    · rw [if_neg y] at hp
      exact br_t (ec.trans ((bs_t0 (by omega)).mpr (eb.trans (ts_nt y)))) (nm_r e1 (ih l hl (by omega) hp))
end
theorem i_vc_size {k : Nat} {u : SX} {v : SY} (I : i_Rel k u v) (hk : k + 6 ≤ 3072) (v1 : Int32) (v2 : Int32) : wpX_size (fun r u' => wpY_size (fun r' v' => r' = r ∧ i_Rel (k + 6) u' v') v v1 v2) u v1 v2 := by
  obtain ⟨f_root, f_used, f_counted, f_sorted, f_put, a_names, a_values, a_parent, a_first, a_next, a_place, a_nodeAt, a_end, a_up, a_children, a_above, a_named, a_valueAt, a_kinds, a_vals, a_types, a_behind, a_local, a_length, a_open, a_table, a_results, a_known, a_along, a_stack, a_match, a_priority, a_out, a_on, a_matched, a_chosen, a_waiting, a_depths, a_outputs⟩ := u
  obtain ⟨g_count, g_top, g_listed, g_outputs, b_row, b_depth, b_name, b_value, b_moved, b_kind, b_with, b_length, b_sets, b_fresh, b_type, b_number, b_set, b_list, b_there, b_match, b_priority, b_out, b_on, b_todo, b_within, b_output⟩ := v
  have I0 := i_up I
  obtain ⟨c, r, D, nm, va, ln, KK, VV, nd, KD, VD, mo, oo, no, W, TX, TY, EE, TM, CC, OO⟩ := I
  obtain ⟨E1, E2, E3, -⟩ := id EE
  by_cases h : ∃ s x, s < 8 ∧ 0 < ln s ∧ x < c ∧ v1 = nI s ∧ v2 = nI (r x)
  · obtain ⟨s, x, hs, hl, hx, rfl, rfl⟩ := h
    obtain ⟨l1, l2⟩ := E2 s hs
    obtain ⟨E, S⟩ := l2 hl
    obtain ⟨m1, m2⟩ := E3 s hs
    obtain ⟨-, S2⟩ := m2 hl
    have hl40 := E1 s
    have hc := W.1
    have e40 := x40 s
    have et : a_types ((40 : Int32) * nI s).toNatClampNeg = nI (ex_ty (KK s 0)) := by rw [cl_n e40 (by omega)]; exact (S 0 hl).2.2.1
    have hty := ex_ty_le (KK s 0)
    unfold wpX_size
    refine tx_isThere1 W TX E2 hs hl hl40 hx (br_f (by decide) ⟨pk_in (40 * s) 360 (by omega) e40, pk_eq (ex_ty (KK s 0)) 0 (fun t0 => ?_) (fun t0 => ?_) et⟩)
    · have hset : tm_set ln KK s = true := decide_eq_true ⟨hl, ex_ty_0.mp t0⟩
      have hok : bs_ok c (sm_R c D nm va ln KK VV s x) := sm_R_ok hc (by omega) E (ex_ty_0.mp t0) hx
      refine tx_resultAt W TX CC.1 E2 CC.2.1 hs hl hx (fun f_counted' a_place' a_nodeAt' a_end' a_up' a_children' a_above' a_named' a_valueAt' a_table' a_results' a_known' a_along' a_stack' d1 d2 d3 => tx_bits hc hok ?_)
      unfold wpY_size
      refine ty_isExpr1 W TY E3 hs hl hl40 hx (br_f (by decide) (ty_isSet E3 hs (lb_br (fun _ => ty_ask W TY E1 hs hx E S2 m1 CC.2.2.2 (fun g_top' g_listed' b_sets' b_fresh' b_type' b_number' b_set' b_list' f1 sk => ?_)) (fun z => absurd (hset.symm.trans z) (by decide)))))
      have es : b_set' 0 = sm_im r (sm_R c D nm va ln KK VV s x) := sk.2.1 t0
      exact ek_v (P := fun w => wpY_counted _ _ w) es (ty_counted W hok ⟨rfl, zz_mk W TX TY EE TM ⟨fun _ => d2, d3, CC.2.2.1, f1⟩ OO⟩)
    · have hset : tm_set ln KK s = false := decide_eq_false (fun w => t0 (ex_ty_0.mpr w.2))
      unfold wpY_size
      exact ty_isExpr1 W TY E3 hs hl hl40 hx (br_f (by decide) (ty_isSet E3 hs (lb_br (fun z => absurd (hset.symm.trans z) (by decide)) (fun _ => ⟨rfl, I0⟩))))
  · unfold wpX_size
    refine tx_isThere0 W TX E2 E1 h (br_t rfl ?_)
    unfold wpY_size
    exact ty_isExpr0 W TY E3 E1 h (br_t rfl ⟨rfl, I0⟩)
theorem i_vc_at {k : Nat} {u : SX} {v : SY} (I : i_Rel k u v) (hk : k + 6 ≤ 3072) (v1 : Int32) (v2 : Int32) (v3 : Int32) : wpX_at (fun r u' => wpY_at (fun r' v' => r' = r ∧ i_Rel (k + 6) u' v') v v1 v2 v3) u v1 v2 v3 := by
  obtain ⟨f_root, f_used, f_counted, f_sorted, f_put, a_names, a_values, a_parent, a_first, a_next, a_place, a_nodeAt, a_end, a_up, a_children, a_above, a_named, a_valueAt, a_kinds, a_vals, a_types, a_behind, a_local, a_length, a_open, a_table, a_results, a_known, a_along, a_stack, a_match, a_priority, a_out, a_on, a_matched, a_chosen, a_waiting, a_depths, a_outputs⟩ := u
  obtain ⟨g_count, g_top, g_listed, g_outputs, b_row, b_depth, b_name, b_value, b_moved, b_kind, b_with, b_length, b_sets, b_fresh, b_type, b_number, b_set, b_list, b_there, b_match, b_priority, b_out, b_on, b_todo, b_within, b_output⟩ := v
  have I0 := i_up I
  obtain ⟨c, r, D, nm, va, ln, KK, VV, nd, KD, VD, mo, oo, no, W, TX, TY, EE, TM, CC, OO⟩ := I
  obtain ⟨E1, E2, E3, -⟩ := id EE
  by_cases h : ∃ s x, s < 8 ∧ 0 < ln s ∧ x < c ∧ v1 = nI s ∧ v2 = nI (r x)
  · obtain ⟨s, x, hs, hl, hx, rfl, rfl⟩ := h
    obtain ⟨l1, l2⟩ := E2 s hs
    obtain ⟨E, S⟩ := l2 hl
    obtain ⟨m1, m2⟩ := E3 s hs
    obtain ⟨-, S2⟩ := m2 hl
    have hl40 := E1 s
    have hc := W.1
    have e40 := x40 s
    have et : a_types ((40 : Int32) * nI s).toNatClampNeg = nI (ex_ty (KK s 0)) := by rw [cl_n e40 (by omega)]; exact (S 0 hl).2.2.1
    have hty := ex_ty_le (KK s 0)
    unfold wpX_at
    refine tx_isThere1 W TX E2 hs hl hl40 hx (br_f (by decide) ⟨pk_in (40 * s) 360 (by omega) e40, pk_eq (ex_ty (KK s 0)) 0 (fun t0 => ?_) (fun t0 => ?_) et⟩)
    · have hset : tm_set ln KK s = true := decide_eq_true ⟨hl, ex_ty_0.mp t0⟩
      have hok : bs_ok c (sm_R c D nm va ln KK VV s x) := sm_R_ok hc (by omega) E (ex_ty_0.mp t0) hx
      by_cases hneg : v3 < 0
      · refine br_f (Int32.not_le.mpr hneg) ?_
        unfold wpY_at
        refine ty_isExpr1 W TY E3 hs hl hl40 hx (br_f (by decide) (ty_isSet E3 hs (lb_br (fun _ => ty_ask W TY E1 hs hx E S2 m1 CC.2.2.2 (fun g_top' g_listed' b_sets' b_fresh' b_type' b_number' b_set' b_list' f1 sk => ?_)) (fun z => absurd (hset.symm.trans z) (by decide)))))
        exact ⟨1, pk_le c 0 (fun z => by omega) (fun _ => br_t hneg ⟨rfl, zz_mk W TX TY EE TM ⟨CC.1, CC.2.1, CC.2.2.1, f1⟩ OO⟩) TY.1⟩
      · obtain ⟨kk, hkb, rfl⟩ := nI_of hneg
        refine br_t (nI_pos' hkb) (tx_resultAt W TX CC.1 E2 CC.2.1 hs hl hx (fun f_counted' a_place' a_nodeAt' a_end' a_up' a_children' a_above' a_named' a_valueAt' a_table' a_results' a_known' a_along' a_stack' d1 d2 d3 => ?_))
        have hx38 := tx_at38 (r := r) (f_root := f_root) (f_used := f_used) (f_counted := f_counted') (f_sorted := f_sorted) (f_put := f_put) (a_names := a_names) (a_values := a_values) (a_parent := a_parent) (a_first := a_first) (a_next := a_next) (a_place := a_place') (a_nodeAt := a_nodeAt') (a_end := a_end') (a_up := a_up') (a_children := a_children') (a_above := a_above') (a_named := a_named') (a_valueAt := a_valueAt') (a_kinds := a_kinds) (a_vals := a_vals) (a_types := a_types) (a_behind := a_behind) (a_local := a_local) (a_length := a_length) (a_open := a_open) (a_table := a_table') (a_results := a_results') (a_known := a_known') (a_along := a_along') (a_stack := a_stack') (a_match := a_match) (a_priority := a_priority) (a_out := a_out) (a_on := a_on) (a_matched := a_matched) (a_chosen := a_chosen) (a_waiting := a_waiting) (a_depths := a_depths) (a_outputs := a_outputs) (post := fun w u' => wpY_at (fun r' v' => r' = w ∧ i_Rel (k + 6) u' v') (g_count, g_top, g_listed, g_outputs, b_row, b_depth, b_name, b_value, b_moved, b_kind, b_with, b_length, b_sets, b_fresh, b_type, b_number, b_set, b_list, b_there, b_match, b_priority, b_out, b_on, b_todo, b_within, b_output) (nI s) (nI (r x)) (nI kk)) hkb (fun i hi => (d2.1 i hi).2.1) hc (bs_els (sm_R c D nm va ln KK VV s x)) 0 (by omega) (bs_els_asc _) (fun q hq => bs_ok_els hok hq) ?_
        · rw [nI_0, bs_bo_els hok hc] at hx38
          exact ⟨_, hx38⟩
        · rw [Nat.sub_zero]
          unfold wpY_at
          refine ty_isExpr1 W TY E3 hs hl hl40 hx (br_f (by decide) (ty_isSet E3 hs (lb_br (fun _ => ty_ask W TY E1 hs hx E S2 m1 CC.2.2.2 (fun g_top' g_listed' b_sets' b_fresh' b_type' b_number' b_set' b_list' f1 sk => ?_)) (fun z => absurd (hset.symm.trans z) (by decide)))))
          have es : b_set' 0 = sm_im r (sm_R c D nm va ln KK VV s x) := sk.2.1 t0
          have ee : (sm_sf false c c).filter (fun k => bt (sm_R c D nm va ln KK VV s x) k) = bs_els (sm_R c D nm va ln KK VV s x) := by
            rw [sm_sf_f c c (Nat.le_refl _), Nat.sub_self, ← List.range_eq_range']
            exact els_range hc hok
          have h31 : wY_at_31 (fun r' v' => r' = sm_nth r (bs_els (sm_R c D nm va ln KK VV s x)) kk ∧ i_Rel (k + 6) (f_root, f_used, f_counted', f_sorted, f_put, a_names, a_values, a_parent, a_first, a_next, a_place', a_nodeAt', a_end', a_up', a_children', a_above', a_named', a_valueAt', a_kinds, a_vals, a_types, a_behind, a_local, a_length, a_open, a_table', a_results', a_known', a_along', a_stack', a_match, a_priority, a_out, a_on, a_matched, a_chosen, a_waiting, a_depths, a_outputs) v') g_count g_top' g_listed' g_outputs b_row b_depth b_name b_value b_moved b_kind b_with b_length b_sets' b_fresh' b_type' b_number' b_set' b_list' b_there b_match b_priority b_out b_on b_todo b_within b_output (c + 1) (nI kk) (nI (c - c)) :=
            ty_at31 W TY hok es c kk hkb (Nat.le_refl _) ⟨by rw [ee], zz_mk W TX TY EE TM ⟨fun _ => d2, d3, CC.2.2.1, f1⟩ OO⟩
          rw [Nat.sub_self, nI_0] at h31
          exact ⟨_, h31⟩
    · have hset : tm_set ln KK s = false := decide_eq_false (fun w => t0 (ex_ty_0.mpr w.2))
      unfold wpY_at
      exact ty_isExpr1 W TY E3 hs hl hl40 hx (br_f (by decide) (ty_isSet E3 hs (lb_br (fun z => absurd (hset.symm.trans z) (by decide)) (fun _ => ⟨rfl, I0⟩))))
  · unfold wpX_at
    refine tx_isThere0 W TX E2 E1 h (br_t rfl ?_)
    unfold wpY_at
    exact ty_isExpr0 W TY E3 E1 h (br_t rfl ⟨rfl, I0⟩)
theorem i_vc_number {k : Nat} {u : SX} {v : SY} (I : i_Rel k u v) (hk : k + 6 ≤ 3072) (v1 : Int32) (v2 : Int32) : wpX_number (fun r u' => wpY_number (fun r' v' => r' = r ∧ i_Rel (k + 6) u' v') v v1 v2) u v1 v2 := by
  obtain ⟨f_root, f_used, f_counted, f_sorted, f_put, a_names, a_values, a_parent, a_first, a_next, a_place, a_nodeAt, a_end, a_up, a_children, a_above, a_named, a_valueAt, a_kinds, a_vals, a_types, a_behind, a_local, a_length, a_open, a_table, a_results, a_known, a_along, a_stack, a_match, a_priority, a_out, a_on, a_matched, a_chosen, a_waiting, a_depths, a_outputs⟩ := u
  obtain ⟨g_count, g_top, g_listed, g_outputs, b_row, b_depth, b_name, b_value, b_moved, b_kind, b_with, b_length, b_sets, b_fresh, b_type, b_number, b_set, b_list, b_there, b_match, b_priority, b_out, b_on, b_todo, b_within, b_output⟩ := v
  have I0 := i_up I
  obtain ⟨c, r, D, nm, va, ln, KK, VV, nd, KD, VD, mo, oo, no, W, TX, TY, EE, TM, CC, OO⟩ := I
  obtain ⟨E1, E2, E3, -⟩ := id EE
  by_cases h : ∃ s x, s < 8 ∧ 0 < ln s ∧ x < c ∧ v1 = nI s ∧ v2 = nI (r x)
  · obtain ⟨s, x, hs, hl, hx, rfl, rfl⟩ := h
    obtain ⟨l1, l2⟩ := E2 s hs
    obtain ⟨E, S⟩ := l2 hl
    obtain ⟨m1, m2⟩ := E3 s hs
    obtain ⟨-, S2⟩ := m2 hl
    have hl40 := E1 s
    have hc := W.1
    have e40 := x40 s
    have et : a_types ((40 : Int32) * nI s).toNatClampNeg = nI (ex_ty (KK s 0)) := by rw [cl_n e40 (by omega)]; exact (S 0 hl).2.2.1
    have hty := ex_ty_le (KK s 0)
    unfold wpX_number
    refine tx_isThere1 W TX E2 hs hl hl40 hx (br_f (by decide) (tx_resultAt W TX CC.1 E2 CC.2.1 hs hl hx (fun f_counted' a_place' a_nodeAt' a_end' a_up' a_children' a_above' a_named' a_valueAt' a_table' a_results' a_known' a_along' a_stack' d1 d2 d3 => ⟨pk_in (40 * s) 360 (by omega) e40, ?_⟩)))
    have hokp : ex_ty (KK s 0) = 0 → bs_ok c (sm_R c D nm va ln KK VV s x) := fun t0 => sm_R_ok hc (by omega) E (ex_ty_0.mp t0) hx
    have fin : ∀ w : Int32, w = sm_pl va (ex_ty (KK s 0)) (sm_R c D nm va ln KK VV s x) → wpY_number (fun r' v' => r' = w ∧ i_Rel (k + 6) (f_root, f_used, f_counted', f_sorted, f_put, a_names, a_values, a_parent, a_first, a_next, a_place', a_nodeAt', a_end', a_up', a_children', a_above', a_named', a_valueAt', a_kinds, a_vals, a_types, a_behind, a_local, a_length, a_open, a_table', a_results', a_known', a_along', a_stack', a_match, a_priority, a_out, a_on, a_matched, a_chosen, a_waiting, a_depths, a_outputs) v') (g_count, g_top, g_listed, g_outputs, b_row, b_depth, b_name, b_value, b_moved, b_kind, b_with, b_length, b_sets, b_fresh, b_type, b_number, b_set, b_list, b_there, b_match, b_priority, b_out, b_on, b_todo, b_within, b_output) (nI s) (nI (r x)) := by
      intro w hw
      unfold wpY_number
      refine ty_isExpr1 W TY E3 hs hl hl40 hx (br_f (by decide) (ty_ask W TY E1 hs hx E S2 m1 CC.2.2.2 (fun g_top' g_listed' b_sets' b_fresh' b_type' b_number' b_set' b_list' f1 sk => ?_)))
      exact ty_plain (a := 0) W TY (by omega) (ex_ty_le _) hokp sk ⟨hw.symm, zz_mk W TX TY EE TM ⟨fun _ => d2, d3, CC.2.2.1, f1⟩ OO⟩
    have hv : ∀ i, i < c → a_valueAt' i = va i := fun i hi => (d2.1 i hi).2.2.2.2.2.2
    refine pk_eq (ex_ty (KK s 0)) 0 (fun t0 => tx_valueOf (u := (f_root, f_used, f_counted', f_sorted, f_put, a_names, a_values, a_parent, a_first, a_next, a_place', a_nodeAt', a_end', a_up', a_children', a_above', a_named', a_valueAt', a_kinds, a_vals, a_types, a_behind, a_local, a_length, a_open, a_table', a_results', a_known', a_along', a_stack', a_match, a_priority, a_out, a_on, a_matched, a_chosen, a_waiting, a_depths, a_outputs)) (c := c) (va := va) hv hc (hokp t0) (fin _ ?_)) (fun t0 => fin _ ?_) et
    · unfold sm_pl; rw [if_pos t0]
    · unfold sm_pl; rw [if_neg t0]
  · unfold wpX_number
    refine tx_isThere0 W TX E2 E1 h (br_t rfl ?_)
    unfold wpY_number
    exact ty_isExpr0 W TY E3 E1 h (br_t rfl ⟨rfl, I0⟩)
theorem i_vc_holds {k : Nat} {u : SX} {v : SY} (I : i_Rel k u v) (hk : k + 6 ≤ 3072) (v1 : Int32) (v2 : Int32) : wpX_holds (fun r u' => wpY_holds (fun r' v' => r' = r ∧ i_Rel (k + 6) u' v') v v1 v2) u v1 v2 := by
  obtain ⟨f_root, f_used, f_counted, f_sorted, f_put, a_names, a_values, a_parent, a_first, a_next, a_place, a_nodeAt, a_end, a_up, a_children, a_above, a_named, a_valueAt, a_kinds, a_vals, a_types, a_behind, a_local, a_length, a_open, a_table, a_results, a_known, a_along, a_stack, a_match, a_priority, a_out, a_on, a_matched, a_chosen, a_waiting, a_depths, a_outputs⟩ := u
  obtain ⟨g_count, g_top, g_listed, g_outputs, b_row, b_depth, b_name, b_value, b_moved, b_kind, b_with, b_length, b_sets, b_fresh, b_type, b_number, b_set, b_list, b_there, b_match, b_priority, b_out, b_on, b_todo, b_within, b_output⟩ := v
  have I0 := i_up I
  obtain ⟨c, r, D, nm, va, ln, KK, VV, nd, KD, VD, mo, oo, no, W, TX, TY, EE, TM, CC, OO⟩ := I
  obtain ⟨E1, E2, E3, -⟩ := id EE
  by_cases h : ∃ s x, s < 8 ∧ 0 < ln s ∧ x < c ∧ v1 = nI s ∧ v2 = nI (r x)
  · obtain ⟨s, x, hs, hl, hx, rfl, rfl⟩ := h
    obtain ⟨l1, l2⟩ := E2 s hs
    obtain ⟨E, S⟩ := l2 hl
    obtain ⟨m1, m2⟩ := E3 s hs
    obtain ⟨-, S2⟩ := m2 hl
    have hl40 := E1 s
    have hc := W.1
    unfold wpX_holds
    refine tx_isThere1 W TX E2 hs hl hl40 hx (br_f (by decide) (tx_resultAt W TX CC.1 E2 CC.2.1 hs hl hx (fun f_counted' a_place' a_nodeAt' a_end' a_up' a_children' a_above' a_named' a_valueAt' a_table' a_results' a_known' a_along' a_stack' d1 d2 d3 => ?_)))
    have hokp : ex_ty (KK s 0) = 0 → bs_ok c (sm_R c D nm va ln KK VV s x) := fun t0 => sm_R_ok hc (by omega) E (ex_ty_0.mp t0) hx
    have fin : ∀ w : Int32, (sm_R c D nm va ln KK VV s x ≠ 0 → w = 1) → (sm_R c D nm va ln KK VV s x = 0 → w = 0) → wpY_holds (fun r' v' => r' = w ∧ i_Rel (k + 6) (f_root, f_used, f_counted', f_sorted, f_put, a_names, a_values, a_parent, a_first, a_next, a_place', a_nodeAt', a_end', a_up', a_children', a_above', a_named', a_valueAt', a_kinds, a_vals, a_types, a_behind, a_local, a_length, a_open, a_table', a_results', a_known', a_along', a_stack', a_match, a_priority, a_out, a_on, a_matched, a_chosen, a_waiting, a_depths, a_outputs) v') (g_count, g_top, g_listed, g_outputs, b_row, b_depth, b_name, b_value, b_moved, b_kind, b_with, b_length, b_sets, b_fresh, b_type, b_number, b_set, b_list, b_there, b_match, b_priority, b_out, b_on, b_todo, b_within, b_output) (nI s) (nI (r x)) := by
      intro w hw1 hw0
      unfold wpY_holds
      refine ty_isExpr1 W TY E3 hs hl hl40 hx (br_f (by decide) (ty_ask W TY E1 hs hx E S2 m1 CC.2.2.2 (fun g_top' g_listed' b_sets' b_fresh' b_type' b_number' b_set' b_list' f1 sk => ?_)))
      exact ty_isTrue (a := 0) W (by omega) (ex_ty_le _) hokp sk (fun z => ⟨rfl, (hw1 z).symm, zz_mk W TX TY EE TM ⟨fun _ => d2, d3, CC.2.2.1, f1⟩ OO⟩) (fun z => ⟨rfl, (hw0 z).symm, zz_mk W TX TY EE TM ⟨fun _ => d2, d3, CC.2.2.1, f1⟩ OO⟩)
    by_cases z : sm_R c D nm va ln KK VV s x = 0
    · exact br_t z (fin 0 (fun y => absurd z y) (fun _ => rfl))
    · exact br_f z (fin 1 (fun _ => rfl) (fun y => absurd y z))
  · unfold wpX_holds
    refine tx_isThere0 W TX E2 E1 h (br_t rfl ?_)
    unfold wpY_holds
    exact ty_isExpr0 W TY E3 E1 h (br_t rfl ⟨rfl, I0⟩)
end
section
/-! ===== templates, transform, output ===== -/
theorem ty_inc {post : Int32 → Prop} {x lo hi : Int32} (h1 : ¬ x < lo ∧ ¬ hi < x → post 1) (h0 : ¬ (¬ x < lo ∧ ¬ hi < x) → post 0) : wpY_in post x lo hi := by
  by_cases a : x < lo
  · exact br_t a (h0 (fun z => z.1 a))
  · by_cases b : hi < x
    · exact br_f a (br_t b (h0 (fun z => z.2 b)))
    · exact br_f a (br_f b (h1 ⟨a, b⟩))
theorem nar_s {x : Int32} (h1 : -128 ≤ x.toInt) (h2 : x.toInt < 128) : vp_nar .byte x.toInt8.toInt32 = x := by rw [pk_vb, lg_i2b_small h1 h2]
theorem nar_9 {x : Int32} (h1 : ¬ x < -9) (h2 : ¬ 9 < x) : vp_nar .byte x.toInt8.toInt32 = x := by
  have a := Int32.le_iff_toInt_le.mp (Int32.not_lt.mp h1)
  have b := Int32.le_iff_toInt_le.mp (Int32.not_lt.mp h2)
  have ea : (-9 : Int32).toInt = -9 := by decide
  have eb : (9 : Int32).toInt = 9 := by decide
  rw [ea] at a
  rw [eb] at b
  exact nar_s (by omega) (by omega)
theorem opt_7 {x : Int32} (h1 : ¬ x < -1) (h2 : ¬ 7 < x) : (∃ o : Option Nat, x = tm_mo o ∧ ∀ m, o = some m → m < 8) ∧ vp_nar .byte x.toInt8.toInt32 = x := by
  have a := Int32.le_iff_toInt_le.mp (Int32.not_lt.mp h1)
  have b := Int32.le_iff_toInt_le.mp (Int32.not_lt.mp h2)
  have ea : (-1 : Int32).toInt = -1 := by decide
  have eb : (7 : Int32).toInt = 7 := by decide
  rw [ea] at a
  rw [eb] at b
  refine ⟨?_, nar_s (by omega) (by omega)⟩
  by_cases z : x < 0
  · have d := Int32.lt_iff_toInt_lt.mp z
    have e0 : (0 : Int32).toInt = 0 := by decide
    rw [e0] at d
    refine ⟨none, ?_, fun m e => absurd e (by simp)⟩
    apply Int32.toInt_inj.mp
    show x.toInt = (-1 : Int32).toInt
    rw [ea]; omega
  · obtain ⟨j, hj, rfl⟩ := nI_of z
    have h7 : j ≤ 7 := by
      rcases Nat.lt_or_ge 7 j with w | w
      · exact absurd (nI_lt (a := 7) w hj) h2
      · exact w
    exact ⟨some j, rfl, fun m e => by have := Option.some.inj e; omega⟩
theorem i_vc_template {k : Nat} {u : SX} {v : SY} (I : i_Rel k u v) (hk : k + 6 ≤ 3072) (v1 : Int32) (v2 : Int32) (v3 : Int32) (v4 : Int32) (v5 : Int32) : wpX_template (fun r u' => wpY_template (fun r' v' => r' = r ∧ i_Rel (k + 6) u' v') v v1 v2 v3 v4 v5) u v1 v2 v3 v4 v5 := by
  obtain ⟨f_root, f_used, f_counted, f_sorted, f_put, a_names, a_values, a_parent, a_first, a_next, a_place, a_nodeAt, a_end, a_up, a_children, a_above, a_named, a_valueAt, a_kinds, a_vals, a_types, a_behind, a_local, a_length, a_open, a_table, a_results, a_known, a_along, a_stack, a_match, a_priority, a_out, a_on, a_matched, a_chosen, a_waiting, a_depths, a_outputs⟩ := u
  obtain ⟨g_count, g_top, g_listed, g_outputs, b_row, b_depth, b_name, b_value, b_moved, b_kind, b_with, b_length, b_sets, b_fresh, b_type, b_number, b_set, b_list, b_there, b_match, b_priority, b_out, b_on, b_todo, b_within, b_output⟩ := v
  have I0 := i_up I
  obtain ⟨c, r, D, nm, va, ln, KK, VV, nd, KD, VD, mo, oo, no, W, TX, TY, EE, TM, CC, OO⟩ := I
  obtain ⟨M1, M2, M3, M4, M5, M6, M7⟩ := TM
  have bad : ¬ ((¬ v1 < 0 ∧ ¬ 5 < v1) ∧ (¬ v2 < 0 ∧ ¬ 7 < v2) ∧ (¬ v3 < -9 ∧ ¬ 9 < v3) ∧ (¬ v4 < -1 ∧ ¬ 7 < v4) ∧ (¬ v5 < -1 ∧ ¬ 7 < v5)) → wpY_template (fun r' v' => r' = 0 ∧ i_Rel (k + 6) (f_root, f_used, f_counted, f_sorted, f_put, a_names, a_values, a_parent, a_first, a_next, a_place, a_nodeAt, a_end, a_up, a_children, a_above, a_named, a_valueAt, a_kinds, a_vals, a_types, a_behind, a_local, a_length, a_open, a_table, a_results, a_known, a_along, a_stack, a_match, a_priority, a_out, a_on, a_matched, a_chosen, a_waiting, a_depths, a_outputs) v') (g_count, g_top, g_listed, g_outputs, b_row, b_depth, b_name, b_value, b_moved, b_kind, b_with, b_length, b_sets, b_fresh, b_type, b_number, b_set, b_list, b_there, b_match, b_priority, b_out, b_on, b_todo, b_within, b_output) v1 v2 v3 v4 v5 := by
    intro hb
    unfold wpY_template
    exact ty_inc (fun a1 => br_f (by decide) (ty_inc (fun a2 => br_f (by decide) (ty_inc (fun a3 => br_f (by decide) (ty_inc (fun a4 => br_f (by decide) (ty_inc (fun a5 => absurd ⟨a1, a2, a3, a4, a5⟩ hb) (fun _ => br_t rfl ⟨rfl, I0⟩))) (fun _ => br_t rfl ⟨rfl, I0⟩))) (fun _ => br_t rfl ⟨rfl, I0⟩))) (fun _ => br_t rfl ⟨rfl, I0⟩))) (fun _ => br_t rfl ⟨rfl, I0⟩)
  by_cases a1 : v1 < 0
  · exact br_t a1 (bad (fun z => z.1.1 a1))
  refine br_f a1 ?_
  by_cases a2 : 5 < v1
  · exact br_t a2 (bad (fun z => z.1.2 a2))
  refine br_f a2 ?_
  by_cases a3 : v2 < 0
  · exact br_t a3 (bad (fun z => z.2.1.1 a3))
  refine br_f a3 ?_
  by_cases a4 : 7 < v2
  · exact br_t a4 (bad (fun z => z.2.1.2 a4))
  refine br_f a4 ?_
  by_cases a5 : v3 < -9
  · exact br_t a5 (bad (fun z => z.2.2.1.1 a5))
  refine br_f a5 ?_
  by_cases a6 : 9 < v3
  · exact br_t a6 (bad (fun z => z.2.2.1.2 a6))
  refine br_f a6 ?_
  by_cases a7 : v4 < -1
  · exact br_t a7 (bad (fun z => z.2.2.2.1.1 a7))
  refine br_f a7 ?_
  by_cases a8 : 7 < v4
  · exact br_t a8 (bad (fun z => z.2.2.2.1.2 a8))
  refine br_f a8 ?_
  by_cases a9 : v5 < -1
  · exact br_t a9 (bad (fun z => z.2.2.2.2.1 a9))
  refine br_f a9 ?_
  by_cases a10 : 7 < v5
  · exact br_f (Int32.not_le.mpr a10) (bad (fun z => z.2.2.2.2.2 a10))
  refine br_t (Int32.not_lt.mp a10) ?_
  obtain ⟨t, ht, rfl⟩ := nI_of2 (M := 5) (n := 5) (by decide) a1 (Int32.not_lt.mp a2)
  obtain ⟨m, hm, rfl⟩ := nI_of2 (M := 7) (n := 7) (by decide) a3 (Int32.not_lt.mp a4)
  obtain ⟨⟨o, eo, ho⟩, no4⟩ := opt_7 a7 a8
  obtain ⟨⟨q, eq, hq⟩, no5⟩ := opt_7 a9 a10
  have n3 := nar_9 a5 a6
  have vt : vp_in (nI t) 6 := pk_in t 6 (by omega)
  refine ⟨vt, nm_r (up_cl (by omega) (bs_nb (by omega))) ⟨vt, nm_r (up_cl (by omega) n3) ⟨vt, nm_r (up_cl (by omega) no4) ⟨vt, nm_r (up_cl (by omega) no5) ?_⟩⟩⟩⟩
  unfold wpY_template
  refine ty_inc (fun _ => br_f (by decide) (ty_inc (fun _ => br_f (by decide) (ty_inc (fun _ => br_f (by decide) (ty_inc (fun _ => br_f (by decide) (ty_inc (fun _ => br_f (by decide) ⟨vt, nm_r (up_cl (by omega) bs_bool1) ⟨vt, nm_r (up_cl (by omega) rfl) ⟨vt, nm_r (up_cl (by omega) rfl) ⟨vt, nm_r (up_cl (by omega) rfl) ⟨vt, nm_r (up_cl (by omega) rfl) ⟨rfl, ?_⟩⟩⟩⟩⟩⟩) (fun z => absurd ⟨a9, a10⟩ z))) (fun z => absurd ⟨a7, a8⟩ z))) (fun z => absurd ⟨a5, a6⟩ z))) (fun z => absurd ⟨a3, a4⟩ z))) (fun z => absurd ⟨a1, a2⟩ z)
  have opt : ∀ (arr : Nat → Int32) (f : Nat → Option Nat) (x : Int32) (g : Option Nat), x = tm_mo g → (∀ m, g = some m → m < 8) → (∀ s, s < 6 → arr s = tm_mo (f s) ∧ ∀ m, f s = some m → m < 8) → ∀ s, s < 6 → upd arr t x s = tm_mo (if s = t then g else f s) ∧ ∀ m, (if s = t then g else f s) = some m → m < 8 := by
    intro arr f x g hx hg hf s hs
    by_cases e : s = t
    · rw [if_pos e, e, pk_us]; exact ⟨hx, hg⟩
    · rw [if_neg e, pk_un e]; exact hf s hs
  refine zz_mk (mo := fun s => if s = t then some m else mo s) (oo := fun s => if s = t then o else oo s) (no := fun s => if s = t then q else no s) W TX TY EE ⟨opt _ mo _ (some m) rfl (fun m' e => by have := Option.some.inj e; omega) M1, fun s hs => ?_, opt _ oo _ o eo ho M3, opt _ no _ q eq hq M4, opt _ oo _ o eo ho M5, opt _ no _ q eq hq M6, by rw [M7]⟩ ⟨CC.1, CC.2.1, fun z => absurd rfl z, CC.2.2.2⟩ OO
  show ((if s = t then some m else mo s) = none ∧ _) ∨ ∃ m', m' < 8 ∧ (if s = t then some m else mo s) = some m' ∧ _
  by_cases e : s = t
  · rw [if_pos e, e, pk_us, pk_us]
    exact Or.inr ⟨m, by omega, rfl, rfl, rfl⟩
  · rw [if_neg e, pk_un e, pk_un e]
    exact M2 s hs
theorem i_vc_drop {k : Nat} {u : SX} {v : SY} (I : i_Rel k u v) (hk : k + 6 ≤ 3072) (v1 : Int32) : wpX_drop (fun r u' => wpY_drop (fun r' v' => r' = r ∧ i_Rel (k + 6) u' v') v v1) u v1 := by
  obtain ⟨f_root, f_used, f_counted, f_sorted, f_put, a_names, a_values, a_parent, a_first, a_next, a_place, a_nodeAt, a_end, a_up, a_children, a_above, a_named, a_valueAt, a_kinds, a_vals, a_types, a_behind, a_local, a_length, a_open, a_table, a_results, a_known, a_along, a_stack, a_match, a_priority, a_out, a_on, a_matched, a_chosen, a_waiting, a_depths, a_outputs⟩ := u
  obtain ⟨g_count, g_top, g_listed, g_outputs, b_row, b_depth, b_name, b_value, b_moved, b_kind, b_with, b_length, b_sets, b_fresh, b_type, b_number, b_set, b_list, b_there, b_match, b_priority, b_out, b_on, b_todo, b_within, b_output⟩ := v
  have I0 := i_up I
  obtain ⟨c, r, D, nm, va, ln, KK, VV, nd, KD, VD, mo, oo, no, W, TX, TY, EE, TM, CC, OO⟩ := I
  obtain ⟨M1, M2, M3, M4, M5, M6, M7⟩ := TM
  have bad : ¬ (¬ v1 < 0 ∧ ¬ 5 < v1) → wpY_drop (fun r' v' => r' = 0 ∧ i_Rel (k + 6) (f_root, f_used, f_counted, f_sorted, f_put, a_names, a_values, a_parent, a_first, a_next, a_place, a_nodeAt, a_end, a_up, a_children, a_above, a_named, a_valueAt, a_kinds, a_vals, a_types, a_behind, a_local, a_length, a_open, a_table, a_results, a_known, a_along, a_stack, a_match, a_priority, a_out, a_on, a_matched, a_chosen, a_waiting, a_depths, a_outputs) v') (g_count, g_top, g_listed, g_outputs, b_row, b_depth, b_name, b_value, b_moved, b_kind, b_with, b_length, b_sets, b_fresh, b_type, b_number, b_set, b_list, b_there, b_match, b_priority, b_out, b_on, b_todo, b_within, b_output) v1 := by
    intro hb
    unfold wpY_drop
    exact ty_inc (fun a1 => absurd a1 hb) (fun _ => br_t rfl ⟨rfl, I0⟩)
  by_cases a1 : v1 < 0
  · exact br_t a1 (bad (fun z => z.1 a1))
  refine br_f a1 ?_
  by_cases a2 : 5 < v1
  · exact br_t a2 (bad (fun z => z.2 a2))
  refine br_f a2 ?_
  obtain ⟨t, ht, rfl⟩ := nI_of2 (M := 5) (n := 5) (by decide) a1 (Int32.not_lt.mp a2)
  have vt : vp_in (nI t) 6 := pk_in t 6 (by omega)
  have ct : (nI t).toNatClampNeg = t := nI_clamp (by omega)
  have em : a_match (nI t).toNatClampNeg = tm_mo (mo t) := by rw [ct]; exact (M1 t (by omega)).1
  refine ⟨vt, ?_⟩
  rcases M2 t (by omega) with ⟨m1, m2⟩ | ⟨m, m8, m1, m2, m3⟩
  · refine br_f (by rw [em, m1]; decide) ?_
    unfold wpY_drop
    exact ty_inc (fun _ => br_f (by decide) ⟨vt, br_t (by rw [ct]; exact m2) ⟨rfl, I0⟩⟩) (fun z => absurd ⟨a1, a2⟩ z)
  · refine br_t (by rw [em, m1]; show (0 : Int32) ≤ nI m; exact nI_pos' (by omega)) ⟨vt, nm_r (up_cl (by omega) bs_nb1) ?_⟩
    unfold wpY_drop
    refine ty_inc (fun _ => br_f (by decide) ⟨vt, br_f (by rw [ct, m2]; decide) ⟨vt, nm_r (up_cl (by omega) bs_bool0) ⟨rfl, ?_⟩⟩⟩) (fun z => absurd ⟨a1, a2⟩ z)
    refine zz_mk (mo := fun s => if s = t then none else mo s) W TX TY EE ⟨fun s hs => ?_, fun s hs => ?_, M3, M4, M5, M6, M7⟩ ⟨CC.1, CC.2.1, fun z => absurd rfl z, CC.2.2.2⟩ OO
    · show _ = tm_mo (if s = t then none else mo s) ∧ ∀ m, (if s = t then none else mo s) = some m → m < 8
      by_cases e : s = t
      · rw [if_pos e, e, pk_us]; exact ⟨rfl, fun m e => absurd e (by simp)⟩
      · rw [if_neg e, pk_un e]; exact M1 s hs
    · show ((if s = t then none else mo s) = none ∧ _) ∨ ∃ m', m' < 8 ∧ (if s = t then none else mo s) = some m' ∧ _
      by_cases e : s = t
      · rw [if_pos e, e, pk_us]; exact Or.inl ⟨rfl, rfl⟩
      · rw [if_neg e, pk_un e]; exact M2 s hs
theorem i_vc_matches {k : Nat} {u : SX} {v : SY} (I : i_Rel k u v) (hk : k + 6 ≤ 3072) (v1 : Int32) (v2 : Int32) : wpX_matches (fun r u' => wpY_matches (fun r' v' => r' = r ∧ i_Rel (k + 6) u' v') v v1 v2) u v1 v2 := by
  obtain ⟨f_root, f_used, f_counted, f_sorted, f_put, a_names, a_values, a_parent, a_first, a_next, a_place, a_nodeAt, a_end, a_up, a_children, a_above, a_named, a_valueAt, a_kinds, a_vals, a_types, a_behind, a_local, a_length, a_open, a_table, a_results, a_known, a_along, a_stack, a_match, a_priority, a_out, a_on, a_matched, a_chosen, a_waiting, a_depths, a_outputs⟩ := u
  obtain ⟨g_count, g_top, g_listed, g_outputs, b_row, b_depth, b_name, b_value, b_moved, b_kind, b_with, b_length, b_sets, b_fresh, b_type, b_number, b_set, b_list, b_there, b_match, b_priority, b_out, b_on, b_todo, b_within, b_output⟩ := v
  have I0 := i_up I
  obtain ⟨c, r, D, nm, va, ln, KK, VV, nd, KD, VD, mo, oo, no, W, TX, TY, EE, TM, CC, OO⟩ := I
  obtain ⟨M1, M2, M3, M4, M5, M6, M7⟩ := id TM
  obtain ⟨E1, E2, E3, -⟩ := id EE
  have hc := W.1
  have TT : yy_T (g_count, g_top, g_listed, g_outputs, b_row, b_depth, b_name, b_value, b_moved, b_kind, b_with, b_length, b_sets, b_fresh, b_type, b_number, b_set, b_list, b_there, b_match, b_priority, b_out, b_on, b_todo, b_within, b_output) c r D nm va := TY
  have bad : ¬ (¬ v1 < 0 ∧ ¬ 5 < v1) → wpY_matches (fun r' v' => r' = 0 ∧ i_Rel (k + 6) (f_root, f_used, f_counted, f_sorted, f_put, a_names, a_values, a_parent, a_first, a_next, a_place, a_nodeAt, a_end, a_up, a_children, a_above, a_named, a_valueAt, a_kinds, a_vals, a_types, a_behind, a_local, a_length, a_open, a_table, a_results, a_known, a_along, a_stack, a_match, a_priority, a_out, a_on, a_matched, a_chosen, a_waiting, a_depths, a_outputs) v') (g_count, g_top, g_listed, g_outputs, b_row, b_depth, b_name, b_value, b_moved, b_kind, b_with, b_length, b_sets, b_fresh, b_type, b_number, b_set, b_list, b_there, b_match, b_priority, b_out, b_on, b_todo, b_within, b_output) v1 v2 := by
    intro hb
    unfold wpY_matches
    exact ty_inc (fun a1 => absurd a1 hb) (fun _ => br_t rfl ⟨rfl, I0⟩)
  by_cases a1 : v1 < 0
  · exact br_t a1 (bad (fun z => z.1 a1))
  refine br_f a1 ?_
  by_cases a2 : 5 < v1
  · exact br_t a2 (bad (fun z => z.2 a2))
  refine br_f a2 ?_
  obtain ⟨t, ht, rfl⟩ := nI_of2 (M := 5) (n := 5) (by decide) a1 (Int32.not_lt.mp a2)
  have vt : vp_in (nI t) 6 := pk_in t 6 (by omega)
  have ct : (nI t).toNatClampNeg = t := nI_clamp (by omega)
  have em : a_match (nI t).toNatClampNeg = tm_mo (mo t) := by rw [ct]; exact (M1 t (by omega)).1
  refine ⟨vt, ?_⟩
  rcases M2 t (by omega) with ⟨m1, m2⟩ | ⟨m, m8, m1, m2, m3⟩
  · refine br_t (by rw [em, m1]; decide) ?_
    unfold wpY_matches
    exact ty_inc (fun _ => br_f (by decide) ⟨vt, br_t (by rw [ct]; exact m2) ⟨rfl, I0⟩⟩) (fun z => absurd ⟨a1, a2⟩ z)
  · refine br_f (by rw [em, m1]; show ¬ nI m < 0; exact nI_pos (by omega)) ?_
    by_cases hx : ∃ x, x < c ∧ v2 = nI (r x)
    · obtain ⟨x, hx, rfl⟩ := hx
      have hrx := W.2.1 x hx
      refine tx_isNode1 (u := (f_root, f_used, f_counted, f_sorted, f_put, a_names, a_values, a_parent, a_first, a_next, a_place, a_nodeAt, a_end, a_up, a_children, a_above, a_named, a_valueAt, a_kinds, a_vals, a_types, a_behind, a_local, a_length, a_open, a_table, a_results, a_known, a_along, a_stack, a_match, a_priority, a_out, a_on, a_matched, a_chosen, a_waiting, a_depths, a_outputs)) W TX hx (br_f (by decide) (tx_sort W (by omega) TX CC.1 E2 CC.2.1 M1 CC.2.2.1 (fun f_counted' f_sorted' a_place' a_nodeAt' a_end' a_up' a_children' a_above' a_named' a_valueAt' a_table' a_results' a_known' a_along' a_stack' a_matched' a_chosen' c1 c2 c3 s1 s2 => ⟨vt, pk_in (r x) 24 hrx, ?_⟩)))
      have e1 : (a_matched' (nI t).toNatClampNeg >>> (a_place' (nI (r x)).toNatClampNeg &&& 31)) &&& 1 = (tm_M c D ln KK (sm_R c D nm va ln KK VV) (mo t) >>> (nI x &&& 31)) &&& 1 := by
        rw [ct, s2.1 t (by omega), nI_clamp (by omega), (c2.1 x hx).1]
      have fin : ∀ w : Int32, w = lb (bt (tm_M c D ln KK (sm_R c D nm va ln KK VV) (mo t)) x) → wpY_matches (fun r' v' => r' = w ∧ i_Rel (k + 6) (f_root, f_used, f_counted', f_sorted', f_put, a_names, a_values, a_parent, a_first, a_next, a_place', a_nodeAt', a_end', a_up', a_children', a_above', a_named', a_valueAt', a_kinds, a_vals, a_types, a_behind, a_local, a_length, a_open, a_table', a_results', a_known', a_along', a_stack', a_match, a_priority, a_out, a_on, a_matched', a_chosen', a_waiting, a_depths, a_outputs) v') (g_count, g_top, g_listed, g_outputs, b_row, b_depth, b_name, b_value, b_moved, b_kind, b_with, b_length, b_sets, b_fresh, b_type, b_number, b_set, b_list, b_there, b_match, b_priority, b_out, b_on, b_todo, b_within, b_output) (nI t) (nI (r x)) := by
        intro w hw
        exact ty_matches W TY E1 E3 M2 (by omega) hx CC.2.2.2 (fun g_top' g_listed' b_sets' b_fresh' b_type' b_number' b_set' b_list' f1 => ⟨hw.symm, zz_mk W TX TY EE TM ⟨fun _ => c2, c3, fun _ => s2, f1⟩ OO⟩)
      cases y : bt (tm_M c D ln KK (sm_R c D nm va ln KK VV) (mo t)) x with
      | false => exact br_t (e1.trans ((bs_t0 (by omega)).mpr y)) (fin 0 (by rw [y]; rfl))
      | true => exact br_f (fun z => by have := (bs_t0 (by omega)).mp (e1.symm.trans z); rw [y] at this; exact absurd this (by decide)) (fin 1 (by rw [y]; rfl))
    · have hx' : ∀ i, i < c → v2 ≠ nI (r i) := fun i hi e => hx ⟨i, hi, e⟩
      refine tx_isNode0 (u := (f_root, f_used, f_counted, f_sorted, f_put, a_names, a_values, a_parent, a_first, a_next, a_place, a_nodeAt, a_end, a_up, a_children, a_above, a_named, a_valueAt, a_kinds, a_vals, a_types, a_behind, a_local, a_length, a_open, a_table, a_results, a_known, a_along, a_stack, a_match, a_priority, a_out, a_on, a_matched, a_chosen, a_waiting, a_depths, a_outputs)) W TX hx' (br_t rfl ?_)
      unfold wpY_matches
      exact ty_inc (fun _ => br_f (by decide) ⟨vt, br_f (by rw [ct, m2]; decide) (ty_where0 (v := (g_count, g_top, g_listed, g_outputs, b_row, b_depth, b_name, b_value, b_moved, b_kind, b_with, b_length, b_sets, b_fresh, b_type, b_number, b_set, b_list, b_there, b_match, b_priority, b_out, b_on, b_todo, b_within, b_output)) W TT hx' (br_t (by decide) ⟨rfl, I0⟩))⟩) (fun z => absurd ⟨a1, a2⟩ z)
theorem i_vc_transform {k : Nat} {u : SX} {v : SY} (I : i_Rel k u v) (hk : k + 6 ≤ 3072) (v1 : Int32) : wpX_transform (fun r u' => wpY_transform (fun r' v' => r' = r ∧ i_Rel (k + 6) u' v') v v1) u v1 := by
  obtain ⟨f_root, f_used, f_counted, f_sorted, f_put, a_names, a_values, a_parent, a_first, a_next, a_place, a_nodeAt, a_end, a_up, a_children, a_above, a_named, a_valueAt, a_kinds, a_vals, a_types, a_behind, a_local, a_length, a_open, a_table, a_results, a_known, a_along, a_stack, a_match, a_priority, a_out, a_on, a_matched, a_chosen, a_waiting, a_depths, a_outputs⟩ := u
  obtain ⟨g_count, g_top, g_listed, g_outputs, b_row, b_depth, b_name, b_value, b_moved, b_kind, b_with, b_length, b_sets, b_fresh, b_type, b_number, b_set, b_list, b_there, b_match, b_priority, b_out, b_on, b_todo, b_within, b_output⟩ := v
  have I0 := i_up I
  obtain ⟨c, r, D, nm, va, ln, KK, VV, nd, KD, VD, mo, oo, no, W, TX, TY, EE, TM, CC, OO⟩ := I
  obtain ⟨M1, M2, M3, M4, M5, M6, M7⟩ := id TM
  obtain ⟨E1, E2, E3, -⟩ := id EE
  have TT : yy_T (g_count, g_top, g_listed, g_outputs, b_row, b_depth, b_name, b_value, b_moved, b_kind, b_with, b_length, b_sets, b_fresh, b_type, b_number, b_set, b_list, b_there, b_match, b_priority, b_out, b_on, b_todo, b_within, b_output) c r D nm va := TY
  by_cases hx : ∃ x, x < c ∧ v1 = nI (r x)
  · obtain ⟨x, hx, rfl⟩ := hx
    refine tx_transform W TX CC.1 E2 CC.2.1 M1 M3 M4 CC.2.2.1 hx rfl (fun f_counted' f_sorted' f_put' a_place' a_nodeAt' a_end' a_up' a_children' a_above' a_named' a_valueAt' a_table' a_results' a_known' a_along' a_stack' a_matched' a_chosen' a_waiting' a_depths' a_outputs' w o c1 c2 c3 s1 s2 hr hl hoa hput => ?_)
    refine ty_transform W TY E1 E3 M2 M5 M6 CC.2.2.2 hx rfl (fun g_top' g_listed' g_outputs' b_sets' b_fresh' b_type' b_number' b_set' b_list' b_todo' b_within' b_output' w' o' f1 hr' hl' hoa' hput' => ?_)
    rw [← M7] at hr'
    have same : w' = w ∧ o' = o := by
      rcases hr with ⟨r1, r2, r3⟩ | ⟨r1, r2⟩ <;> rcases hr' with ⟨q1, q2, q3⟩ | ⟨q1, q2⟩
      · exact ⟨by rw [q2, r2], by rw [q3, r3]⟩
      · rw [r1] at q1; exact absurd q1 (by simp)
      · rw [r1] at q1; exact absurd q1 (by simp)
      · have e : o = o' := by rw [r1] at q1; exact Option.some.inj q1
        exact ⟨by rw [q2, r2, e], e.symm⟩
    obtain ⟨ew, eo⟩ := same
    subst eo
    exact ⟨ew, zz_mk W TX TY EE TM ⟨fun _ => c2, c3, fun _ => s2, f1⟩ ⟨o', hl, hput, hput', hoa, hoa'⟩⟩
  · have hx' : ∀ i, i < c → v1 ≠ nI (r i) := fun i hi e => hx ⟨i, hi, e⟩
    unfold wpX_transform
    refine tx_isNode0 (u := (f_root, f_used, f_counted, f_sorted, f_put, a_names, a_values, a_parent, a_first, a_next, a_place, a_nodeAt, a_end, a_up, a_children, a_above, a_named, a_valueAt, a_kinds, a_vals, a_types, a_behind, a_local, a_length, a_open, a_table, a_results, a_known, a_along, a_stack, a_match, a_priority, a_out, a_on, a_matched, a_chosen, a_waiting, a_depths, a_outputs)) W TX hx' (br_t rfl ?_)
    unfold wpY_transform
    exact ty_where0 (v := (g_count, g_top, g_listed, g_outputs, b_row, b_depth, b_name, b_value, b_moved, b_kind, b_with, b_length, b_sets, b_fresh, b_type, b_number, b_set, b_list, b_there, b_match, b_priority, b_out, b_on, b_todo, b_within, b_output)) W TT hx' (br_f (by decide) ⟨rfl, I0⟩)
theorem i_vc_output {k : Nat} {u : SX} {v : SY} (I : i_Rel k u v) (hk : k + 6 ≤ 3072) (v1 : Int32) : wpX_output (fun r => wpY_output (fun r' => r' = r ∧ i_Rel (k + 6) u v) v v1) u v1 := by
  obtain ⟨f_root, f_used, f_counted, f_sorted, f_put, a_names, a_values, a_parent, a_first, a_next, a_place, a_nodeAt, a_end, a_up, a_children, a_above, a_named, a_valueAt, a_kinds, a_vals, a_types, a_behind, a_local, a_length, a_open, a_table, a_results, a_known, a_along, a_stack, a_match, a_priority, a_out, a_on, a_matched, a_chosen, a_waiting, a_depths, a_outputs⟩ := u
  obtain ⟨g_count, g_top, g_listed, g_outputs, b_row, b_depth, b_name, b_value, b_moved, b_kind, b_with, b_length, b_sets, b_fresh, b_type, b_number, b_set, b_list, b_there, b_match, b_priority, b_out, b_on, b_todo, b_within, b_output⟩ := v
  have I0 := i_up I
  obtain ⟨c, r, D, nm, va, ln, KK, VV, nd, KD, VD, mo, oo, no, W, TX, TY, EE, TM, CC, OO⟩ := I
  obtain ⟨o, hl, hp, hq, ha, hb⟩ := OO
  by_cases a1 : v1 < 0
  · exact br_t a1 (br_t a1 (br_t rfl ⟨rfl, I0⟩))
  · obtain ⟨j, hj, rfl⟩ := nI_of a1
    refine br_f a1 (pk_le o.length j (fun z => ?_) (fun z => ⟨pk_in j 100 (by omega), ?_⟩) hp)
    · refine br_f a1 (br_t ?_ (br_t rfl ⟨rfl, I0⟩))
      show g_outputs - 1 < nI j
      rw [hq]
      rcases Nat.eq_zero_or_pos o.length with y | y
      · rw [y]
        have h0 : (0 : Int32) ≤ nI j := nI_pos' hj
        exact Int32.lt_of_lt_of_le (by decide) h0
      · rw [show nI o.length - 1 = nI (o.length - 1) from pk_sub (b := 1) (by omega)]
        exact nI_lt (by omega) hj
    · have e : g_outputs - 1 = nI (o.length - 1) := by rw [hq]; exact pk_sub (b := 1) (by omega)
      refine br_f a1 (br_f ?_ (br_f (by decide) ⟨pk_in j 100 (by omega), ?_, I0⟩))
      · show ¬ g_outputs - 1 < nI j
        rw [e]; exact nI_nlt (by omega) (by omega)
      · rw [nI_clamp (by omega)]
        exact om_ar_eq o 0 j hb ha (by omega) (by omega)
end
