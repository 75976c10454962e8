section
/-! rows pasted from the kit's rows to paste (PURE-ROWS, BITS) -/
theorem pk_us {f : Nat → Int32} {k : Nat} {x : Int32} : upd f k x k = x := if_pos rfl
theorem pk_un {f : Nat → Int32} {k j : Nat} {x : Int32} (h : j ≠ k) : upd f k x j = f j := if_neg h
theorem pk_sub {a b : Nat} (h : b ≤ a) : nI a - nI b = nI (a - b) := by
  obtain ⟨c, rfl⟩ : ∃ c, a = c + b := ⟨a - b, by omega⟩
  rw [← nI_add, Int32.add_sub_cancel, Nat.add_sub_cancel]
theorem pk_m1 (n : Nat) : nI (n + 1) + (-1) = nI n := by
  rw [← nI_1, Int32.add_assoc, show (1 : Int32) + (-1) = 0 from rfl, Int32.add_zero]
theorem pk_mul (a b : Nat) : nI a * nI b = nI (a * b) := (Int32.ofNat_mul a b).symm
theorem pk_div {a d : Nat} (ha : a < 2 ^ 31) (h0 : 0 < d) (hd : d < 2 ^ 31) : nI a / nI d = nI (a / d) := by
  apply Int32.toInt_inj.mp
  rw [lg_idiv_nonneg (by rw [nI_toInt ha]; omega) (by rw [nI_toInt hd]; omega), nI_toInt ha, nI_toInt hd, nI_toInt (Nat.lt_of_le_of_lt (Nat.div_le_self a d) ha)]
  first | rfl | exact (Int.natCast_ediv _ _).symm
theorem pk_rem {a d : Nat} (ha : a < 2 ^ 31) (h0 : 0 < d) (hd : d < 2 ^ 31) : nI a - nI a / nI d * nI d = nI (a % d) := by
  rw [pk_div ha h0 hd, pk_mul, pk_sub (Nat.div_mul_le_self a d)]
  exact congrArg nI (by have := Nat.div_add_mod' a d; omega)
theorem pk_sub_toInt {a b : Nat} (ha : a < 2 ^ 30) (hb : b < 2 ^ 30) : (nI a - nI b).toInt = (a : Int) - b := by
  rw [Int32.toInt_sub, nI_toInt (by omega), nI_toInt (by omega)]
  exact Int.bmod_eq_of_le (by omega) (by omega)
theorem pk_sneg {a b : Nat} (hb : b < 2 ^ 30) (h : a < b) : nI a - nI b < 0 := by
  rw [Int32.lt_iff_toInt_lt, pk_sub_toInt (by omega) hb, show (0 : Int32).toInt = 0 from by decide]
  omega
theorem pk_ix (x : Int32) {n : Nat} (hn : n < 2 ^ 31) : x < 0 ∨ nI n ≤ x ∨ ∃ j : Nat, j < n ∧ x = nI j := by
  by_cases h : x < 0
  · exact Or.inl h
  · obtain ⟨j, hj, rfl⟩ := nI_of h
    by_cases h2 : j < n
    · exact Or.inr (Or.inr ⟨j, h2, rfl⟩)
    · exact Or.inr (Or.inl (nI_le (by omega) hj))
theorem pk_le {x y : Int32} {A B : Prop} (a b : Nat) (f : a ≤ b → A) (g : b < a → B) (hx : x = nI a := by rfl) (hy : y = nI b := by rfl) (ha : a < 2 ^ 31 := by omega) (hb : b < 2 ^ 31 := by omega) : (x ≤ y → A) ∧ (¬ x ≤ y → B) := by
  subst hx hy
  rw [nI_leI ha hb]
  exact ⟨f, fun z => g (by omega)⟩
theorem pk_lt {x y : Int32} {A B : Prop} (a b : Nat) (f : a < b → A) (g : b ≤ a → B) (hx : x = nI a := by rfl) (hy : y = nI b := by rfl) (ha : a < 2 ^ 31 := by omega) (hb : b < 2 ^ 31 := by omega) : (x < y → A) ∧ (¬ x < y → B) := by
  subst hx hy
  rw [nI_ltI ha hb]
  exact ⟨f, fun z => g (by omega)⟩
theorem pk_eq {x y : Int32} {A B : Prop} (a b : Nat) (f : a = b → A) (g : a ≠ b → B) (hx : x = nI a := by rfl) (hy : y = nI b := by rfl) (ha : a < 2 ^ 31 := by omega) (hb : b < 2 ^ 31 := by omega) : (x = y → A) ∧ (¬ x = y → B) := by
  subst hx hy
  rw [nI_eq ha hb]
  exact ⟨f, g⟩
theorem pk_in {x : Int32} (n N : Nat) (h : n < N) (hx : x = nI n := by rfl) (hN : N < 2 ^ 31 := by omega) : vp_in x N := by
  subst hx
  exact vp_in_nI h hN
theorem pk_cl {x : Int32} (n : Nat) (hx : x = nI n := by rfl) (h : n < 2 ^ 31 := by omega) : x.toNatClampNeg = n := by
  subst hx
  exact nI_clamp h
theorem pk_tn {n : Nat} (h : n < 2 ^ 32) : (nI n).toBitVec.toNat = n := Nat.mod_eq_of_lt h
theorem pk_and (x : Int32) {m : Int32} (k : Nat) (hm : m.toBitVec.toNat = 2 ^ k - 1) : x &&& m = nI (x.toBitVec.toNat % 2 ^ k) := by
  apply Int32.toBitVec_inj.mp
  apply BitVec.eq_of_toNat_eq
  rw [Int32.toBitVec_and, BitVec.toNat_and, hm, Nat.and_two_pow_sub_one_eq_mod]
  show _ = (BitVec.ofNat 32 _).toNat
  rw [BitVec.toNat_ofNat]
  exact (Nat.mod_eq_of_lt (Nat.lt_of_le_of_lt (Nat.mod_le _ _) x.toBitVec.isLt)).symm
theorem pk_andN {n : Nat} (h : n < 2 ^ 32) {m : Int32} (k : Nat) (hm : m.toBitVec.toNat = 2 ^ k - 1) : nI n &&& m = nI (n % 2 ^ k) := by
  rw [pk_and _ k hm, pk_tn h]
theorem pk_andE (x : Int32) {m : Int32} (k : Nat) (hm : m.toBitVec.toNat = 2 ^ k - 1) : ∃ j : Nat, j < 2 ^ k ∧ x &&& m = nI j := ⟨_, Nat.mod_lt _ (Nat.two_pow_pos k), pk_and x k hm⟩
theorem pk_andIn (x : Int32) {m : Int32} (k : Nat) (hm : m.toBitVec.toNat = 2 ^ k - 1) (hk : k ≤ 30) : vp_in (x &&& m) (2 ^ k) := by
  obtain ⟨j, hj, e⟩ := pk_andE x k hm
  rw [e]
  exact vp_in_nI hj (Nat.lt_of_le_of_lt (Nat.pow_le_pow_right (by decide) hk) (by decide))
theorem pk_shl (a s : Int32) (k : Nat) (hs : (s.toBitVec.smod 32).toNat = k) : (a <<< s).toBitVec.toNat = a.toBitVec.toNat * 2 ^ k % 2 ^ 32 := by
  show (a.toBitVec <<< (s.toBitVec.smod 32).toNat).toNat = _
  rw [hs, BitVec.toNat_shiftLeft, Nat.shiftLeft_eq]
theorem pk_shlN {n : Nat} (s : Int32) (k : Nat) (hs : (s.toBitVec.smod 32).toNat = k) (h : n * 2 ^ k < 2 ^ 32) : nI n <<< s = nI (n * 2 ^ k) := by
  apply Int32.toBitVec_inj.mp
  apply BitVec.eq_of_toNat_eq
  have hn : n < 2 ^ 32 := Nat.lt_of_le_of_lt (Nat.le_mul_of_pos_right n (Nat.two_pow_pos k)) h
  rw [pk_shl _ _ k hs, pk_tn hn, pk_tn h, Nat.mod_eq_of_lt h]
theorem pk_shr (a s : Int32) (k : Nat) (hs : (s.toBitVec.smod 32).toNat = k) : (a >>> s).toInt = a.toInt >>> k := by
  show (a.toBitVec.sshiftRight (s.toBitVec.smod 32).toNat).toInt = _
  rw [hs, BitVec.toInt_sshiftRight]
  rfl
theorem pk_shrN {n : Nat} (h : n < 2 ^ 31) (s : Int32) (k : Nat) (hs : (s.toBitVec.smod 32).toNat = k) : nI n >>> s = nI (n / 2 ^ k) := by
  apply Int32.toInt_inj.mp
  have h2 : n / 2 ^ k ≤ n := Nat.div_le_self _ _
  rw [pk_shr _ _ k hs, nI_toInt h, nI_toInt (by omega), Int.shiftRight_eq_div_pow]
  rfl
def bt (x : Int32) (i : Nat) : Bool := x.toBitVec.getLsbD i
theorem b_ext {x y : Int32} (h : ∀ i, i < 32 → bt x i = bt y i) : x = y := Int32.toBitVec_inj.mp (BitVec.eq_of_getLsbD_eq (fun i hi => h i hi))
theorem b_or (x y : Int32) (i : Nat) : bt (x ||| y) i = (bt x i || bt y i) := by unfold bt; rw [Int32.toBitVec_or, BitVec.getLsbD_or]
theorem b_and (x y : Int32) (i : Nat) : bt (x &&& y) i = (bt x i && bt y i) := by unfold bt; rw [Int32.toBitVec_and, BitVec.getLsbD_and]
theorem b_xor (x y : Int32) (i : Nat) : bt (x ^^^ y) i = (bt x i ^^ bt y i) := by unfold bt; rw [Int32.toBitVec_xor, BitVec.getLsbD_xor]
theorem b_big {x : Int32} {i : Nat} (h : 32 ≤ i) : bt x i = false := BitVec.getLsbD_of_ge _ _ h
theorem b_255 (i : Nat) : bt 255 i = decide (i < 8) := by
  rcases Nat.lt_or_ge i 32 with h | h
  · exact (by decide +kernel : ∀ i, i < 32 → bt 255 i = decide (i < 8)) i h
  · rw [b_big h, decide_eq_false (by omega)]
theorem b_m1 : ∀ i, i < 32 → bt (-1) i = true := by decide +kernel
theorem b_0 (i : Nat) : bt 0 i = false := BitVec.getLsbD_zero
theorem s_l : ∀ n, n < 32 → ((nI n &&& 31).toBitVec.smod 32).toNat = n := by decide +kernel
theorem b_shl (n : Nat) (hn : n < 32) (x : Int32) {i : Nat} (hi : i < 32) : bt (x <<< (nI n &&& 31)) i = (decide (n ≤ i) && bt x (i - n)) := by
  unfold bt
  rw [Int32.toBitVec_shiftLeft]
  show (x.toBitVec <<< ((nI n &&& 31).toBitVec.smod 32).toNat).getLsbD i = _
  rw [s_l n hn, BitVec.getLsbD_shiftLeft]
  rcases Nat.lt_or_ge i n with h | h
  · simp [h, Nat.not_le.mpr h]
  · simp [hi, h, Nat.not_lt.mpr h]
theorem b_sshr (n : Nat) (hn : n < 32) (x : Int32) {i : Nat} (hi : i < 32) : bt (x >>> (nI n &&& 31)) i = if n + i < 32 then bt x (n + i) else bt x 31 := by
  unfold bt
  rw [Int32.toBitVec_shiftRight]
  show (x.toBitVec.sshiftRight ((nI n &&& 31).toBitVec.smod 32).toNat).getLsbD i = _
  rw [s_l n hn, BitVec.getLsbD_sshiftRight, BitVec.msb_eq_getLsbD_last]
  simp [hi]
theorem nx_and (a b : Nat) : nI a &&& nI b = nI (a &&& b) := by
  apply Int32.toBitVec_inj.1
  show BitVec.ofNat 32 a &&& BitVec.ofNat 32 b = BitVec.ofNat 32 (a &&& b)
  apply BitVec.eq_of_getLsbD_eq
  intro i hi
  simp [hi]
theorem nx_xor (a b : Nat) : nI a ^^^ nI b = nI (a ^^^ b) := by
  apply Int32.toBitVec_inj.1
  show BitVec.ofNat 32 a ^^^ BitVec.ofNat 32 b = BitVec.ofNat 32 (a ^^^ b)
  apply BitVec.eq_of_getLsbD_eq
  intro i hi
  simp [hi]
end
section
/-! the check bits: a linear rest; what a frame holds -/
def zk_step (b : Nat) (x : Int32) : Int32 := if ((x >>> (nI b &&& 31)) &&& 1) = 1 then x ^^^ ((263 : Int32) <<< ((nI b - 8) &&& 31)) else x
def zk_lp : Nat → Int32 → Int32
  | 0, x => x
  | n + 1, x => zk_lp n (zk_step (n + 8) x)
def zk_ck (p : Int32) : Int32 := zk_lp 17 ((p &&& 131071) <<< ((8 : Int32) &&& 31)) &&& 255
theorem zk_loop {post : Int32 → Prop} : ∀ (n m : Nat) (x : Int32), n ≤ 17 → n < m → post (zk_lp n x &&& 255) → wX_checkOf_11 post m x (nI (n + 7)) := by
  intro n
  induction n with
  | zero =>
    intro m x _ hm hp
    obtain ⟨m, rfl⟩ : ∃ k, m = k + 1 := ⟨m - 1, by omega⟩
    exact br_t (by decide) hp
  | succ n ih =>
    intro m x hn hm hp
    obtain ⟨m, rfl⟩ : ∃ k, m = k + 1 := ⟨m - 1, by omega⟩
    show wX_checkOf_11 post (m + 1) x (nI (n + 8))
    have h8 : ¬ nI (n + 8) < 8 := nI_nlt (b := 8) (by omega) (by omega)
    refine br_f h8 ?_
    by_cases hc : ((x >>> (nI (n + 8) &&& 31)) &&& 1) = 1
    · have e : zk_lp (n + 1) x = zk_lp n (x ^^^ ((263 : Int32) <<< ((nI (n + 8) - 8) &&& 31))) := by
        show zk_lp n (zk_step (n + 8) x) = _
        unfold zk_step
        rw [if_pos hc]
      rw [e] at hp
      exact br_t hc (nm_e (nm_r (pk_m1 (n + 7)) (ih m _ (by omega) (by omega) hp)))
    · have e : zk_lp (n + 1) x = zk_lp n x := by
        show zk_lp n (zk_step (n + 8) x) = _
        unfold zk_step
        rw [if_neg hc]
      rw [e] at hp
      exact br_f hc (nm_r (pk_m1 (n + 7)) (ih m _ (by omega) (by omega) hp))
theorem zk_check {post : Int32 → Prop} {p : Int32} (h : post (zk_ck p)) : wpX_checkOf post p :=
  nm_e ⟨18, zk_loop 17 18 _ (by omega) (by omega) h⟩
theorem zk_with {post : Int32 → Prop} {p : Int32} (h : post (p ||| (zk_ck p <<< ((17 : Int32) &&& 31)))) : wpX_withCheck post p := by
  unfold wpX_withCheck
  exact zk_check h
theorem zk_sound {post : Int32 → Prop} {p : Int32} (hc : zk_ck p = ((p >>> ((17 : Int32) &&& 31)) &&& 255)) (h : post 1) : wpX_sound post p := by
  unfold wpX_sound
  exact zk_check (br_t hc h)
theorem zk_unsound {post : Int32 → Prop} {p : Int32} (hc : ¬ zk_ck p = ((p >>> ((17 : Int32) &&& 31)) &&& 255)) (h : post 0) : wpX_sound post p := by
  unfold wpX_sound
  exact zk_check (br_f hc h)
theorem zk_b1 : ∀ i, i < 32 → bt 1 i = decide (i = 0) := by decide +kernel
theorem zk_cond (x : Int32) {b : Nat} (hb : b < 32) : ((x >>> (nI b &&& 31)) &&& 1) = 1 ↔ bt x b = true := by
  constructor
  · intro h
    have h2 : bt ((x >>> (nI b &&& 31)) &&& 1) 0 = bt 1 0 := by rw [h]
    rw [b_and, b_sshr b hb x (by decide), if_pos (by omega), zk_b1 0 (by decide)] at h2
    simpa using h2
  · intro h
    refine b_ext fun i hi => ?_
    rw [b_and, b_sshr b hb x hi, zk_b1 i hi]
    by_cases h0 : i = 0
    · subst h0
      rw [if_pos (by omega)]
      simp [h]
    · simp [h0]
theorem zk_step_eq {b : Nat} (hb : b < 32) (x : Int32) : zk_step b x = if bt x b = true then x ^^^ ((263 : Int32) <<< ((nI b - 8) &&& 31)) else x := by
  unfold zk_step
  by_cases h : bt x b = true
  · rw [if_pos h, if_pos ((zk_cond x hb).mpr h)]
  · rw [if_neg h, if_neg (fun z => h ((zk_cond x hb).mp z))]
theorem zk_step_x {b : Nat} (hb : b < 32) (x y : Int32) : zk_step b (x ^^^ y) = zk_step b x ^^^ zk_step b y := by
  rw [zk_step_eq hb, zk_step_eq hb, zk_step_eq hb, b_xor]
  generalize (263 : Int32) <<< ((nI b - 8) &&& 31) = c
  generalize bt x b = p
  generalize bt y b = q
  refine b_ext fun i _ => ?_
  cases p <;> cases q <;> simp [b_xor]
  all_goals (cases bt x i <;> cases bt y i <;> cases bt c i <;> rfl)
theorem zk_lp_x : ∀ (n : Nat), n ≤ 17 → ∀ x y : Int32, zk_lp n (x ^^^ y) = zk_lp n x ^^^ zk_lp n y := by
  intro n
  induction n with
  | zero => intro _ x y; rfl
  | succ n ih =>
    intro hn x y
    show zk_lp n (zk_step (n + 8) (x ^^^ y)) = zk_lp n (zk_step (n + 8) x) ^^^ zk_lp n (zk_step (n + 8) y)
    rw [zk_step_x (by omega), ih (by omega)]
theorem zk_and_x (x y m : Int32) : (x ^^^ y) &&& m = (x &&& m) ^^^ (y &&& m) := by
  refine b_ext fun i _ => ?_
  rw [b_and, b_xor, b_xor, b_and, b_and]
  cases bt x i <;> cases bt y i <;> cases bt m i <;> rfl
theorem zk_shl_x (x y : Int32) : (x ^^^ y) <<< ((8 : Int32) &&& 31) = (x <<< ((8 : Int32) &&& 31)) ^^^ (y <<< ((8 : Int32) &&& 31)) := by
  refine b_ext fun i hi => ?_
  have e : ∀ z : Int32, bt (z <<< ((8 : Int32) &&& 31)) i = (decide (8 ≤ i) && bt z (i - 8)) := fun z => b_shl 8 (by omega) z hi
  rw [b_xor, e, e, e, b_xor]
  cases decide (8 ≤ i) <;> simp
theorem zk_shr_x (x y : Int32) : (x ^^^ y) >>> ((17 : Int32) &&& 31) = (x >>> ((17 : Int32) &&& 31)) ^^^ (y >>> ((17 : Int32) &&& 31)) := by
  refine b_ext fun i hi => ?_
  have e : ∀ z : Int32, bt (z >>> ((17 : Int32) &&& 31)) i = if 17 + i < 32 then bt z (17 + i) else bt z 31 := fun z => b_sshr 17 (by omega) z hi
  rw [b_xor, e, e, e]
  by_cases h : 17 + i < 32
  · rw [if_pos h, if_pos h, if_pos h, b_xor]
  · rw [if_neg h, if_neg h, if_neg h, b_xor]
theorem zk_ck_x (x y : Int32) : zk_ck (x ^^^ y) = zk_ck x ^^^ zk_ck y := by
  unfold zk_ck
  rw [zk_and_x, zk_shl_x, zk_lp_x 17 (by omega), zk_and_x]
theorem zk_cancel {a b c : Int32} (h : c ^^^ a = c ^^^ b) : a = b := by
  refine b_ext fun i _ => ?_
  have h2 : bt (c ^^^ a) i = bt (c ^^^ b) i := by rw [h]
  rw [b_xor, b_xor] at h2
  revert h2
  cases bt a i <;> cases bt b i <;> cases bt c i <;> simp
theorem zk_bits : ∀ t, t < 25 → ¬ zk_ck ((1 : Int32) <<< (nI t &&& 31)) = ((((1 : Int32) <<< (nI t &&& 31)) >>> ((17 : Int32) &&& 31)) &&& 255) := by decide +kernel
theorem zk_flip {f : Int32} (hf : zk_ck f = ((f >>> ((17 : Int32) &&& 31)) &&& 255)) {t : Nat} (ht : t < 25) : ¬ zk_ck (f ^^^ ((1 : Int32) <<< (nI t &&& 31))) = (((f ^^^ ((1 : Int32) <<< (nI t &&& 31))) >>> ((17 : Int32) &&& 31)) &&& 255) := by
  rw [zk_ck_x, zk_shr_x, zk_and_x, ← hf]
  exact fun h => zk_bits t ht (zk_cancel h)
/-! numbers in frames -/
theorem zk_or (a b : Nat) : nI a ||| nI b = nI (a ||| b) := by
  apply Int32.toBitVec_inj.1
  show BitVec.ofNat 32 a ||| BitVec.ofNat 32 b = BitVec.ofNat 32 (a ||| b)
  apply BitVec.eq_of_getLsbD_eq
  intro i hi
  simp [hi]
theorem zk_orS {a b p : Nat} (k : Nat) {s : Int32} (hs : (s.toBitVec.smod 32).toNat = k) (hp : 2 ^ k = p) (ha : a < p) (hb : b * p < 2 ^ 32) : nI a ||| (nI b <<< s) = nI (a + b * p) := by
  subst hp
  rw [pk_shlN s k hs hb, zk_or, Nat.or_comm, Nat.mul_comm b, ← Nat.two_pow_add_eq_or_of_lt ha, Nat.add_comm]
theorem zk_content {k n e b : Nat} (hk : k < 4) (hn : n < 8) (he : e < 8) (hb : b < 512) : ((nI k ||| (nI n <<< ((2 : Int32) &&& 31))) ||| (nI e <<< ((5 : Int32) &&& 31))) ||| (nI b <<< ((8 : Int32) &&& 31)) = nI (k + 4 * n + 32 * e + 256 * b) := by
  rw [zk_orS (p := 4) 2 (by decide) (by decide) (by omega) (by omega), zk_orS (p := 32) 5 (by decide) (by decide) (by omega) (by omega), zk_orS (p := 256) 8 (by decide) (by decide) (by omega) (by omega)]
  have e1 : k + n * 4 + e * 32 + b * 256 = k + 4 * n + 32 * e + 256 * b := by omega
  rw [e1]
theorem zk_shrP {n p : Nat} (h : n < 2 ^ 31) (k : Nat) {s : Int32} (hs : (s.toBitVec.smod 32).toNat = k) (hp : 2 ^ k = p) : nI n >>> s = nI (n / p) := by
  subst hp
  exact pk_shrN h s k hs
theorem zk_andP {n p : Nat} (h : n < 2 ^ 32) (k : Nat) {m : Int32} (hm : m.toBitVec.toNat = 2 ^ k - 1) (hp : 2 ^ k = p) : nI n &&& m = nI (n % p) := by
  subst hp
  exact pk_andN h k hm
def zk_full (n : Nat) : Int32 := nI n ||| (zk_ck (nI n) <<< ((17 : Int32) &&& 31))
theorem zk_fullN {n : Nat} (hn : n < 131072) : ∃ r : Nat, r < 256 ∧ zk_ck (nI n) = nI r ∧ zk_full n = nI (n + r * 131072) := by
  obtain ⟨r, hr, e⟩ : ∃ r : Nat, r < 2 ^ 8 ∧ zk_ck (nI n) = nI r := pk_andE _ 8 (by decide)
  refine ⟨r, hr, e, ?_⟩
  unfold zk_full
  rw [e]
  exact zk_orS (p := 131072) 17 (by decide) (by decide) hn (by omega)
theorem zk_ckM {n r : Nat} (hn : n < 131072) (hr : r < 256) : zk_ck (nI (n + r * 131072)) = zk_ck (nI n) := by
  unfold zk_ck
  rw [zk_andP (p := 131072) (by omega) 17 (by decide) (by decide), zk_andP (p := 131072) (n := n) (by omega) 17 (by decide) (by decide)]
  have e1 : (n + r * 131072) % 131072 = n % 131072 := by omega
  rw [e1]
theorem zk_fullSound {n : Nat} (hn : n < 131072) : zk_ck (zk_full n) = ((zk_full n >>> ((17 : Int32) &&& 31)) &&& 255) := by
  obtain ⟨r, hr, e, e2⟩ := zk_fullN hn
  rw [e2, zk_ckM hn hr, e, zk_shrP (p := 131072) (by omega) 17 (by decide) (by decide), zk_andP (p := 256) (by omega) 8 (by decide) (by decide)]
  have e1 : (n + r * 131072) / 131072 % 256 = r := by omega
  rw [e1]
theorem zk_fullAt {n : Nat} (hn : n < 131072) : zk_full n &&& 3 = nI (n % 4) ∧ (zk_full n >>> ((2 : Int32) &&& 31)) &&& 7 = nI (n / 4 % 8) ∧ (zk_full n >>> ((5 : Int32) &&& 31)) &&& 7 = nI (n / 32 % 8) ∧ (zk_full n >>> ((8 : Int32) &&& 31)) &&& 511 = nI (n / 256 % 512) := by
  obtain ⟨r, hr, e, e2⟩ := zk_fullN hn
  rw [e2]
  refine ⟨?_, ?_, ?_, ?_⟩
  · rw [zk_andP (p := 4) (by omega) 2 (by decide) (by decide)]
    have e1 : (n + r * 131072) % 4 = n % 4 := by omega
    rw [e1]
  · rw [zk_shrP (p := 4) (by omega) 2 (by decide) (by decide), zk_andP (p := 8) (by omega) 3 (by decide) (by decide)]
    have e1 : (n + r * 131072) / 4 % 8 = n / 4 % 8 := by omega
    rw [e1]
  · rw [zk_shrP (p := 32) (by omega) 5 (by decide) (by decide), zk_andP (p := 8) (by omega) 3 (by decide) (by decide)]
    have e1 : (n + r * 131072) / 32 % 8 = n / 32 % 8 := by omega
    rw [e1]
  · rw [zk_shrP (p := 256) (by omega) 8 (by decide) (by decide), zk_andP (p := 512) (by omega) 9 (by decide) (by decide)]
    have e1 : (n + r * 131072) / 256 % 512 = n / 256 % 512 := by omega
    rw [e1]
/-! an abstract frame (kind, number of the byte, number confirmed) and its 25 bits -/
def zk_num (k d : Nat) : Nat := if k = 0 then d % 8 else 0
def zk_byt (bf : Nat → Nat) (k d : Nat) : Nat := if k = 0 then bf d else 0
def zk_cont (bf : Nat → Nat) (f : Nat × Nat × Nat) : Nat := f.1 + 4 * zk_num f.1 f.2.1 + 32 * (f.2.2 % 8) + 256 * zk_byt bf f.1 f.2.1
def zk_enc (bf : Nat → Nat) (f : Nat × Nat × Nat) : Int32 := zk_full (zk_cont bf f)
theorem zk_num_lt (k d : Nat) : zk_num k d < 8 := by
  unfold zk_num
  split
  · exact Nat.mod_lt _ (by decide)
  · decide
theorem zk_byt_lt {bf : Nat → Nat} (hb : ∀ j, bf j < 512) (k d : Nat) : zk_byt bf k d < 512 := by
  unfold zk_byt
  split
  · exact hb d
  · decide
theorem zk_cont_lt {bf : Nat → Nat} (hb : ∀ j, bf j < 512) {k : Nat} (hk : k ≤ 2) (d a : Nat) : zk_cont bf (k, d, a) < 131072 := by
  have h1 := zk_num_lt k d
  have h2 := zk_byt_lt hb k d
  have h3 : a % 8 < 8 := Nat.mod_lt _ (by decide)
  show k + 4 * zk_num k d + 32 * (a % 8) + 256 * zk_byt bf k d < 131072
  omega
theorem zk_encAt {bf : Nat → Nat} (hb : ∀ j, bf j < 512) {k : Nat} (hk : k ≤ 2) (d a : Nat) : zk_enc bf (k, d, a) &&& 3 = nI k ∧ (zk_enc bf (k, d, a) >>> ((2 : Int32) &&& 31)) &&& 7 = nI (zk_num k d) ∧ (zk_enc bf (k, d, a) >>> ((5 : Int32) &&& 31)) &&& 7 = nI (a % 8) ∧ (zk_enc bf (k, d, a) >>> ((8 : Int32) &&& 31)) &&& 511 = nI (zk_byt bf k d) := by
  have h := zk_fullAt (zk_cont_lt hb hk d a)
  have h1 := zk_num_lt k d
  have h2 := zk_byt_lt hb k d
  have h3 : a % 8 < 8 := Nat.mod_lt _ (by decide)
  have e : zk_cont bf (k, d, a) = k + 4 * zk_num k d + 32 * (a % 8) + 256 * zk_byt bf k d := rfl
  unfold zk_enc
  obtain ⟨c1, c2, c3, c4⟩ := h
  have e1 : zk_cont bf (k, d, a) % 4 = k := by omega
  have e2 : zk_cont bf (k, d, a) / 4 % 8 = zk_num k d := by omega
  have e3 : zk_cont bf (k, d, a) / 32 % 8 = a % 8 := by omega
  have e4 : zk_cont bf (k, d, a) / 256 % 512 = zk_byt bf k d := by omega
  rw [e1] at c1
  rw [e2] at c2
  rw [e3] at c3
  rw [e4] at c4
  exact ⟨c1, c2, c3, c4⟩
theorem zk_encSound {bf : Nat → Nat} (hb : ∀ j, bf j < 512) {k : Nat} (hk : k ≤ 2) (d a : Nat) : zk_ck (zk_enc bf (k, d, a)) = ((zk_enc bf (k, d, a) >>> ((17 : Int32) &&& 31)) &&& 255) := zk_fullSound (zk_cont_lt hb hk d a)
end
section
/-! a station as an automaton: what it answers to a frame, to a line; six half rounds confirm a byte -/
abbrev zm_Fr : Type := Nat × Nat × Nat
def zm_wn (W B A : Nat) : Nat := min W (B - A)
def zm_dt : Nat → Nat → Nat → List zm_Fr
  | _, 0, _ => []
  | d, m + 1, e => (0, d, e) :: zm_dt (d + 1) m e
theorem zm_tk (N : Nat) (l a : List zm_Fr) : (l.take N ++ a).take N = (l ++ a).take N := by
  have e : N - min N l.length = N - l.length := by omega
  rw [List.take_append, List.take_append, List.take_take, List.length_take, Nat.min_self, e]
def zm_rE (E k d : Nat) : Nat := if k = 0 ∧ d = E then E + 1 else E
def zm_rq (E : Nat) (q : Bool) (k d : Nat) : Bool := if k = 0 then (if d = E then false else if E < d then true else q) else q
def zm_pre (E : Nat) (q : Bool) (k d : Nat) : List zm_Fr := if k = 0 ∧ E < d ∧ q = false then [(2, 0, E)] else []
def zm_ow (E : Nat) (q : Bool) (k d : Nat) : Bool := if k = 0 ∧ ¬ (E < d ∧ q = false) then true else false
def zm_lo (W B A k a : Nat) : Nat := if k = 2 then 0 else zm_wn W B A - (max A a - A)
def zm_m (W B A k a : Nat) : Nat := zm_wn W B (max A a) - zm_lo W B A k a
def zm_pay (ow : Bool) (m e : Nat) : List zm_Fr := if ow = true ∧ m = 0 then [(1, 0, e)] else []
def zm_out (W B A E : Nat) (q : Bool) (k d a : Nat) : List zm_Fr := zm_pre E q k d ++ (zm_dt (max A a + zm_lo W B A k a) (zm_m W B A k a) (zm_rE E k d) ++ zm_pay (zm_ow E q k d) (zm_m W B A k a) (zm_rE E k d))
def zm_A : List zm_Fr → Nat → Nat
  | [], A => A
  | f :: l, A => zm_A l (max A f.2.2)
def zm_E : List zm_Fr → Nat → Nat
  | [], E => E
  | f :: l, E => zm_E l (zm_rE E f.1 f.2.1)
def zm_q : List zm_Fr → Nat → Bool → Bool
  | [], _, q => q
  | f :: l, E, q => zm_q l (zm_rE E f.1 f.2.1) (zm_rq E q f.1 f.2.1)
def zm_O (W B : Nat) : List zm_Fr → Nat → Nat → Bool → List zm_Fr
  | [], _, _, _ => []
  | f :: l, A, E, q => zm_out W B A E q f.1 f.2.1 f.2.2 ++ zm_O W B l (max A f.2.2) (zm_rE E f.1 f.2.1) (zm_rq E q f.1 f.2.1)
theorem zm_A_ge : ∀ (l : List zm_Fr) (A : Nat), A ≤ zm_A l A := by
  intro l
  induction l with
  | nil => intro A; exact Nat.le_refl _
  | cons f l ih => intro A; exact Nat.le_trans (Nat.le_max_left A f.2.2) (ih _)
theorem zm_A_mem : ∀ (l : List zm_Fr) (A : Nat) (f : zm_Fr), f ∈ l → f.2.2 ≤ zm_A l A := by
  intro l
  induction l with
  | nil => intro A f h; exact absurd h (by simp)
  | cons g l ih =>
    intro A f h
    rcases List.mem_cons.mp h with h | h
    · subst h
      exact Nat.le_trans (Nat.le_max_right A f.2.2) (zm_A_ge l _)
    · exact ih _ f h
theorem zm_rE_ge (E k d : Nat) : E ≤ zm_rE E k d := by
  unfold zm_rE
  split
  · exact Nat.le_succ E
  · exact Nat.le_refl E
theorem zm_rE_gt {E d : Nat} (h : d ≤ E) : d < zm_rE E 0 d := by
  unfold zm_rE
  by_cases e : d = E
  · rw [if_pos ⟨rfl, e⟩]; omega
  · rw [if_neg (fun z => e z.2)]; omega
theorem zm_E_ge : ∀ (l : List zm_Fr) (E : Nat), E ≤ zm_E l E := by
  intro l
  induction l with
  | nil => intro E; exact Nat.le_refl _
  | cons f l ih => intro E; exact Nat.le_trans (zm_rE_ge E f.1 f.2.1) (ih _)
theorem zm_E_mem : ∀ (l : List zm_Fr) (E d a : Nat), ((0, d, a) : zm_Fr) ∈ l → d ≤ E → d < zm_E l E := by
  intro l
  induction l with
  | nil => intro E d a h; exact absurd h (by simp)
  | cons g l ih =>
    intro E d a h hd
    rcases List.mem_cons.mp h with h | h
    · subst h
      exact Nat.lt_of_lt_of_le (zm_rE_gt hd) (zm_E_ge l _)
    · exact ih _ d a h (Nat.le_trans hd (zm_rE_ge E g.1 g.2.1))
theorem zm_dt_mem : ∀ (m d e : Nat) (g : zm_Fr), g ∈ zm_dt d m e → g.1 = 0 ∧ g.2.2 = e ∧ d ≤ g.2.1 ∧ g.2.1 < d + m := by
  intro m
  induction m with
  | zero => intro d e g h; exact absurd h (by simp [zm_dt])
  | succ m ih =>
    intro d e g h
    rcases List.mem_cons.mp h with h | h
    · subst h
      exact ⟨rfl, rfl, Nat.le_refl _, by show d < d + (m + 1); omega⟩
    · have := ih (d + 1) e g h
      exact ⟨this.1, this.2.1, by omega, by omega⟩
/-! without an advance -/
theorem zm_out0 {W B A E : Nat} {q : Bool} {d a : Nat} (ha : a ≤ A) : ∃ k, k ≠ 0 ∧ zm_out W B A E q 0 d a = [(k, 0, zm_rE E 0 d)] := by
  have hx : max A a = A := Nat.max_eq_left ha
  have hm : zm_m W B A 0 a = 0 := by
    unfold zm_m zm_lo
    rw [if_neg (by decide), hx, Nat.sub_self, Nat.sub_zero, Nat.sub_self]
  unfold zm_out
  rw [hm]
  by_cases h : E < d ∧ q = false
  · refine ⟨2, by decide, ?_⟩
    have e1 : zm_pre E q 0 d = [(2, 0, E)] := if_pos ⟨rfl, h⟩
    have e2 : zm_ow E q 0 d = false := if_neg (fun z => z.2 h)
    have e3 : zm_rE E 0 d = E := if_neg (fun z => by omega)
    rw [e1, e2, e3]
    rfl
  · refine ⟨1, by decide, ?_⟩
    have e1 : zm_pre E q 0 d = [] := if_neg (fun z => h z.2)
    have e2 : zm_ow E q 0 d = true := if_pos ⟨rfl, h⟩
    rw [e1, e2]
    rfl
theorem zm_rE_ne {E k d : Nat} (h : k ≠ 0) : zm_rE E k d = E := if_neg (fun z => h z.1)
theorem zm_out2 {W B A E : Nat} {q : Bool} {d a : Nat} (ha : a ≤ A) : zm_out W B A E q 2 d a = zm_dt A (zm_wn W B A) E := by
  have hx : max A a = A := Nat.max_eq_left ha
  have hl : zm_lo W B A 2 a = 0 := if_pos rfl
  have hm : zm_m W B A 2 a = zm_wn W B A := by
    unfold zm_m
    rw [hl, hx, Nat.sub_zero]
  have e1 : zm_pre E q 2 d = [] := if_neg (fun z => absurd z.1 (by decide))
  have e2 : zm_ow E q 2 d = false := if_neg (fun z => absurd z.1 (by decide))
  have e4 : zm_pay false (zm_wn W B A) E = [] := if_neg (fun z => absurd z.1 (by decide))
  unfold zm_out
  rw [hm, hl, hx, e1, e2, zm_rE_ne (by decide), e4, List.nil_append, List.append_nil, Nat.add_zero]
theorem zm_out1 {W B A E : Nat} {q : Bool} {k d a : Nat} (ha : a ≤ A) (h0 : k ≠ 0) (h2 : k ≠ 2) : zm_out W B A E q k d a = [] := by
  have hx : max A a = A := Nat.max_eq_left ha
  have hm : zm_m W B A k a = 0 := by
    unfold zm_m zm_lo
    rw [if_neg h2, hx, Nat.sub_self, Nat.sub_zero, Nat.sub_self]
  have e1 : zm_pre E q k d = [] := if_neg (fun z => h0 z.1)
  have e2 : zm_ow E q k d = false := if_neg (fun z => h0 z.1)
  have e4 : zm_pay false 0 (zm_rE E k d) = [] := if_neg (fun z => absurd z.1 (by decide))
  unfold zm_out
  rw [hm, e1, e2, e4]
  rfl
theorem zm_na2 {W B A : Nat} (hw : 0 < zm_wn W B A) : ∀ (l : List zm_Fr) (N E e' : Nat) (q : Bool), (∀ f, f ∈ l → f.2.2 ≤ A) → l.length ≤ N → (∃ e, ((0, A, e) : zm_Fr) ∈ (zm_O W B l A E q ++ zm_dt A (zm_wn W B A) e').take N) ∨ (l.length = N ∧ ∀ f, f ∈ l → f.1 = 0) := by
  obtain ⟨w, hw⟩ : ∃ w, zm_wn W B A = w + 1 := ⟨zm_wn W B A - 1, by omega⟩
  intro l
  induction l with
  | nil =>
    intro N E e' q _ _
    rcases Nat.eq_zero_or_pos N with h | h
    · right
      exact ⟨h.symm, fun f hf => absurd hf (by simp)⟩
    · left
      obtain ⟨N, rfl⟩ : ∃ k, N = k + 1 := ⟨N - 1, by omega⟩
      refine ⟨e', ?_⟩
      rw [hw]
      exact List.mem_cons_self
  | cons f l ih =>
    intro N E e' q hn hl
    obtain ⟨N, rfl⟩ : ∃ k, N = k + 1 := ⟨N - 1, by rw [List.length_cons] at hl; omega⟩
    rw [List.length_cons] at hl
    have ha : f.2.2 ≤ A := hn f List.mem_cons_self
    have hn' : ∀ g, g ∈ l → g.2.2 ≤ A := fun g hg => hn g (List.mem_cons_of_mem _ hg)
    have eO : zm_O W B (f :: l) A E q = zm_out W B A E q f.1 f.2.1 f.2.2 ++ zm_O W B l A (zm_rE E f.1 f.2.1) (zm_rq E q f.1 f.2.1) := by
      show _ ++ zm_O W B l (max A f.2.2) _ _ = _
      rw [Nat.max_eq_left ha]
    rw [eO]
    by_cases h0 : f.1 = 0
    · obtain ⟨k, hk, ek⟩ := zm_out0 (W := W) (B := B) (A := A) (E := E) (q := q) (d := f.2.1) ha
      rw [h0, ek]
      rcases ih N (zm_rE E 0 f.2.1) e' (zm_rq E q 0 f.2.1) hn' (by omega) with ⟨e, he⟩ | ⟨h1, h2⟩
      · left
        exact ⟨e, List.mem_cons_of_mem _ he⟩
      · right
        refine ⟨by rw [List.length_cons, h1], fun g hg => ?_⟩
        rcases List.mem_cons.mp hg with z | z
        · rw [z]; exact h0
        · exact h2 g z
    · by_cases h2 : f.1 = 2
      · left
        rw [h2, zm_out2 ha, hw]
        exact ⟨E, List.mem_cons_self⟩
      · rw [zm_out1 ha h0 h2, List.nil_append]
        rcases ih (N + 1) (zm_rE E f.1 f.2.1) e' (zm_rq E q f.1 f.2.1) hn' (by omega) with he | ⟨h1, _⟩
        · exact Or.inl he
        · omega
theorem zm_na3 {W B A : Nat} : ∀ (l : List zm_Fr) (E e' : Nat) (q : Bool) (g : zm_Fr) (tl : List zm_Fr), (∀ f, f ∈ l → f.2.2 ≤ A) → zm_O W B l A E q ++ zm_dt A (zm_wn W B A) e' = g :: tl → g.1 = 0 → g.2.1 = A := by
  have hd : ∀ (e : Nat) (r : List zm_Fr) (g : zm_Fr) (tl : List zm_Fr), zm_dt A (zm_wn W B A) e ++ r = g :: tl → g.2.1 = A ∨ (zm_dt A (zm_wn W B A) e = []) := by
    intro e r g tl h
    rcases Nat.eq_zero_or_pos (zm_wn W B A) with hw | hw
    · right; rw [hw]; rfl
    · left
      obtain ⟨w, hw⟩ : ∃ w, zm_wn W B A = w + 1 := ⟨zm_wn W B A - 1, by omega⟩
      rw [hw] at h
      have : ((0, A, e) : zm_Fr) = g := (List.cons.inj h).1
      rw [← this]
  intro l
  induction l with
  | nil =>
    intro E e' q g tl _ h _
    have h' : zm_dt A (zm_wn W B A) e' ++ [] = g :: tl := by rw [List.append_nil]; exact h
    rcases hd e' [] g tl h' with z | z
    · exact z
    · rw [z] at h'; exact absurd h' (by simp)
  | cons f l ih =>
    intro E e' q g tl hn h hg
    have ha : f.2.2 ≤ A := hn f List.mem_cons_self
    have hn' : ∀ g, g ∈ l → g.2.2 ≤ A := fun g hg => hn g (List.mem_cons_of_mem _ hg)
    have eO : zm_O W B (f :: l) A E q = zm_out W B A E q f.1 f.2.1 f.2.2 ++ zm_O W B l A (zm_rE E f.1 f.2.1) (zm_rq E q f.1 f.2.1) := by
      show _ ++ zm_O W B l (max A f.2.2) _ _ = _
      rw [Nat.max_eq_left ha]
    rw [eO, List.append_assoc] at h
    by_cases h0 : f.1 = 0
    · obtain ⟨k, hk, ek⟩ := zm_out0 (W := W) (B := B) (A := A) (E := E) (q := q) (d := f.2.1) ha
      rw [h0, ek] at h
      have : ((k, 0, zm_rE E 0 f.2.1) : zm_Fr) = g := (List.cons.inj h).1
      rw [← this] at hg
      exact absurd hg hk
    · by_cases h2 : f.1 = 2
      · rw [h2, zm_out2 ha] at h
        rcases hd _ _ g tl h with z | z
        · exact z
        · rw [z, List.nil_append] at h
          exact ih _ e' _ g tl hn' h hg
      · rw [zm_out1 ha h0 h2, List.nil_append] at h
        exact ih _ e' _ g tl hn' h hg
theorem zm_out_ack {W B A E : Nat} {q : Bool} {k d a : Nat} {g : zm_Fr} (h : g ∈ zm_out W B A E q k d a) : E ≤ g.2.2 := by
  unfold zm_out at h
  rcases List.mem_append.mp h with h | h
  · unfold zm_pre at h
    split at h
    · rw [List.mem_singleton.mp h]; exact Nat.le_refl E
    · exact absurd h (by simp)
  · rcases List.mem_append.mp h with h | h
    · rw [(zm_dt_mem _ _ _ g h).2.1]; exact zm_rE_ge E k d
    · unfold zm_pay at h
      split at h
      · rw [List.mem_singleton.mp h]; exact zm_rE_ge E k d
      · exact absurd h (by simp)
theorem zm_O_ack {W B : Nat} : ∀ (l : List zm_Fr) (A E : Nat) (q : Bool) (g : zm_Fr), g ∈ zm_O W B l A E q → E ≤ g.2.2 := by
  intro l
  induction l with
  | nil => intro A E q g h; exact absurd h (by simp [zm_O])
  | cons f l ih =>
    intro A E q g h
    rcases List.mem_append.mp h with h | h
    · exact zm_out_ack h
    · exact Nat.le_trans (zm_rE_ge E f.1 f.2.1) (ih _ _ _ g h)
/-- a byte's frame that is not ahead is answered with a later number -/
theorem zm_O_resp {W B A : Nat} : ∀ (l : List zm_Fr) (E : Nat) (q : Bool) (d a : Nat), (∀ f, f ∈ l → f.2.2 ≤ A) → ((0, d, a) : zm_Fr) ∈ l → d ≤ E → ∃ g, g ∈ zm_O W B l A E q ∧ d < g.2.2 := by
  intro l
  induction l with
  | nil => intro E q d a _ h; exact absurd h (by simp)
  | cons f l ih =>
    intro E q d a hn h hd
    have ha : f.2.2 ≤ A := hn f List.mem_cons_self
    have hn' : ∀ g, g ∈ l → g.2.2 ≤ A := fun g hg => hn g (List.mem_cons_of_mem _ hg)
    have eO : zm_O W B (f :: l) A E q = zm_out W B A E q f.1 f.2.1 f.2.2 ++ zm_O W B l A (zm_rE E f.1 f.2.1) (zm_rq E q f.1 f.2.1) := by
      show _ ++ zm_O W B l (max A f.2.2) _ _ = _
      rw [Nat.max_eq_left ha]
    rw [eO]
    rcases List.mem_cons.mp h with h | h
    · subst h
      obtain ⟨k, hk, ek⟩ := zm_out0 (W := W) (B := B) (A := A) (E := E) (q := q) (d := d) ha
      refine ⟨(k, 0, zm_rE E 0 d), List.mem_append_left _ ?_, zm_rE_gt hd⟩
      show (k, 0, zm_rE E 0 d) ∈ zm_out W B A E q 0 d a
      rw [ek]
      exact List.mem_cons_self
    · obtain ⟨g, h1, h2⟩ := ih (zm_rE E f.1 f.2.1) (zm_rq E q f.1 f.2.1) d a hn' h (Nat.le_trans hd (zm_rE_ge E f.1 f.2.1))
      exact ⟨g, List.mem_append_right _ h1, h2⟩
/-- a station with nothing to send answers each byte's frame once and nothing else -/
theorem zm_O_len {W B A : Nat} (hw : zm_wn W B A = 0) : ∀ (l : List zm_Fr) (E : Nat) (q : Bool), (∀ f, f ∈ l → f.2.2 ≤ A) → (zm_O W B l A E q).length ≤ l.length ∧ ((∀ f, f ∈ l → f.1 ≠ 0) → zm_O W B l A E q = []) := by
  intro l
  induction l with
  | nil => intro E q _; exact ⟨Nat.le_refl _, fun _ => rfl⟩
  | cons f l ih =>
    intro E q hn
    have ha : f.2.2 ≤ A := hn f List.mem_cons_self
    have hn' : ∀ g, g ∈ l → g.2.2 ≤ A := fun g hg => hn g (List.mem_cons_of_mem _ hg)
    have eO : zm_O W B (f :: l) A E q = zm_out W B A E q f.1 f.2.1 f.2.2 ++ zm_O W B l A (zm_rE E f.1 f.2.1) (zm_rq E q f.1 f.2.1) := by
      show _ ++ zm_O W B l (max A f.2.2) _ _ = _
      rw [Nat.max_eq_left ha]
    obtain ⟨i1, i2⟩ := ih (zm_rE E f.1 f.2.1) (zm_rq E q f.1 f.2.1) hn'
    rw [eO, List.length_append, List.length_cons]
    by_cases h0 : f.1 = 0
    · obtain ⟨k, hk, ek⟩ := zm_out0 (W := W) (B := B) (A := A) (E := E) (q := q) (d := f.2.1) ha
      refine ⟨?_, fun z => absurd h0 (z f List.mem_cons_self)⟩
      have e1 : (zm_out W B A E q f.1 f.2.1 f.2.2).length = 1 := by rw [h0, ek]; rfl
      omega
    · have e0 : zm_out W B A E q f.1 f.2.1 f.2.2 = [] := by
        by_cases h2 : f.1 = 2
        · rw [h2, zm_out2 ha, hw]; rfl
        · exact zm_out1 ha h0 h2
      rw [e0]
      refine ⟨?_, fun z => ?_⟩
      · show 0 + _ ≤ _
        omega
      · rw [List.nil_append]
        exact i2 (fun g hg => z g (List.mem_cons_of_mem _ hg))
/-- a line of bytes alone is answered frame by frame, never by a byte -/
theorem zm_O_all {W B A : Nat} : ∀ (l : List zm_Fr) (E : Nat) (q : Bool), (∀ f, f ∈ l → f.2.2 ≤ A) → (∀ f, f ∈ l → f.1 = 0) → (zm_O W B l A E q).length = l.length ∧ ∀ g, g ∈ zm_O W B l A E q → g.1 ≠ 0 := by
  intro l
  induction l with
  | nil => intro E q _ _; exact ⟨rfl, fun g hg => absurd hg (by simp [zm_O])⟩
  | cons f l ih =>
    intro E q hn hd
    have ha : f.2.2 ≤ A := hn f List.mem_cons_self
    have hn' : ∀ g, g ∈ l → g.2.2 ≤ A := fun g hg => hn g (List.mem_cons_of_mem _ hg)
    have hd' : ∀ g, g ∈ l → g.1 = 0 := fun g hg => hd g (List.mem_cons_of_mem _ hg)
    have eO : zm_O W B (f :: l) A E q = zm_out W B A E q f.1 f.2.1 f.2.2 ++ zm_O W B l A (zm_rE E f.1 f.2.1) (zm_rq E q f.1 f.2.1) := by
      show _ ++ zm_O W B l (max A f.2.2) _ _ = _
      rw [Nat.max_eq_left ha]
    obtain ⟨i1, i2⟩ := ih (zm_rE E f.1 f.2.1) (zm_rq E q f.1 f.2.1) hn' hd'
    have h0 : f.1 = 0 := hd f List.mem_cons_self
    obtain ⟨k, hk, ek⟩ := zm_out0 (W := W) (B := B) (A := A) (E := E) (q := q) (d := f.2.1) ha
    have e1 : zm_out W B A E q f.1 f.2.1 f.2.2 = [(k, 0, zm_rE E 0 f.2.1)] := by rw [h0, ek]
    rw [eO, e1]
    refine ⟨?_, fun g hg => ?_⟩
    · rw [List.length_append, i1]
      simp only [List.length_cons, List.length_nil]
      omega
    · rcases List.mem_append.mp hg with z | z
      · rw [List.mem_singleton.mp z]; exact hk
      · exact i2 g z
theorem zm_all16 {W Bx By Ax Ay Ex Ey e' : Nat} {qx qy : Bool} {l m rest : List zm_Fr} (hm : m = (zm_O W By l Ay Ey qy ++ zm_dt Ay (zm_wn W By Ay) e').take 16) (hn : ∀ f, f ∈ l → f.2.2 ≤ Ay) (hlen : m.length = 16) (hd : ∀ f, f ∈ m → f.1 = 0) (hnx : ∀ f, f ∈ m → f.2.2 ≤ Ax) (hy : Ay ≤ Ex) : ∃ g, g ∈ (zm_O W Bx m Ax Ex qx ++ rest).take 16 ∧ Ay < g.2.2 := by
  rcases m with _ | ⟨f, fs⟩
  · exact absurd hlen (by simp)
  · have h0 : f.1 = 0 := hd f List.mem_cons_self
    have hA : f.2.1 = Ay := by
      generalize hz : zm_O W By l Ay Ey qy ++ zm_dt Ay (zm_wn W By Ay) e' = z at hm
      rcases z with _ | ⟨g, tl⟩
      · exact absurd hm (by simp)
      · have : f = g := (List.cons.inj hm).1
        rw [this]
        rw [this] at h0
        exact zm_na3 l Ey e' qy g tl hn hz h0
    have ha : f.2.2 ≤ Ax := hnx f List.mem_cons_self
    obtain ⟨k, hk, ek⟩ := zm_out0 (W := W) (B := Bx) (A := Ax) (E := Ex) (q := qx) (d := f.2.1) ha
    have eO : zm_O W Bx (f :: fs) Ax Ex qx = [(k, 0, zm_rE Ex 0 f.2.1)] ++ zm_O W Bx fs (max Ax f.2.2) (zm_rE Ex f.1 f.2.1) (zm_rq Ex qx f.1 f.2.1) := by
      show zm_out W Bx Ax Ex qx f.1 f.2.1 f.2.2 ++ _ = _
      have : zm_out W Bx Ax Ex qx f.1 f.2.1 f.2.2 = [(k, 0, zm_rE Ex 0 f.2.1)] := by rw [h0, ek]
      rw [this]
    refine ⟨(k, 0, zm_rE Ex 0 f.2.1), ?_, ?_⟩
    · rw [eO]
      exact List.mem_cons_self
    · rw [hA]
      exact zm_rE_gt hy
theorem zm_head_mem {g : zm_Fr} {o r : List zm_Fr} (h : g ∈ o) : ∃ g', g' ∈ o ∧ g' ∈ (o ++ r).take 16 := by
  rcases o with _ | ⟨f, o⟩
  · exact absurd h (by simp)
  · exact ⟨f, List.mem_cons_self, List.mem_cons_self⟩
theorem zm_short_mem {g : zm_Fr} {o r : List zm_Fr} (h : g ∈ o) (hl : o.length ≤ 16) : g ∈ (o ++ r).take 16 := by
  rw [List.take_append, List.take_of_length_le hl]
  exact List.mem_append_left _ h
/-- six half rounds: x and y flush in turn, beginning with x, whose line l0 (its window behind it) is arbitrary; a byte is confirmed -/
theorem zm_prog {W Bx By Ax Ex Ay Ey : Nat} {qx qy : Bool} {l0 l1 l2 m1 m2 m3 : List zm_Fr} {Ax1 Ax2 Ax3 Ex1 Ex2 Ay1 Ay2 Ay3 Ey1 Ey2 Ey3 : Nat} {qx1 qy1 qy2 : Bool}
    (w1 : 1 ≤ W) (hx : Ax ≤ Ey) (hy : Ay ≤ Ex) (hl : l0.length ≤ 16)
    (y1 : Ay1 = zm_A l0 Ay) (f1 : Ey1 = zm_E l0 Ey)
    (em1 : m1 = ((zm_O W By l0 Ay Ey qy).take 16 ++ zm_dt Ay1 (zm_wn W By Ay1) Ey1).take 16)
    (x1 : Ax1 = zm_A m1 Ax) (e1 : Ex1 = zm_E m1 Ex)
    (el1 : l1 = ((zm_O W Bx m1 Ax Ex qx).take 16 ++ zm_dt Ax1 (zm_wn W Bx Ax1) Ex1).take 16)
    (y2 : Ay2 = zm_A l1 Ay1) (f2 : Ey2 = zm_E l1 Ey1)
    (em2 : m2 = ((zm_O W By l1 Ay1 Ey1 qy1).take 16 ++ zm_dt Ay2 (zm_wn W By Ay2) Ey2).take 16)
    (x2 : Ax2 = zm_A m2 Ax1) (e2 : Ex2 = zm_E m2 Ex1)
    (el2 : l2 = ((zm_O W Bx m2 Ax1 Ex1 qx1).take 16 ++ zm_dt Ax2 (zm_wn W Bx Ax2) Ex2).take 16)
    (y3 : Ay3 = zm_A l2 Ay2) (f3 : Ey3 = zm_E l2 Ey2)
    (em3 : m3 = ((zm_O W By l2 Ay2 Ey2 qy2).take 16 ++ zm_dt Ay3 (zm_wn W By Ay3) Ey3).take 16)
    (x3 : Ax3 = zm_A m3 Ax2)
    (hb : Ax < Bx ∨ Ay < By) : Ax < Ax3 ∨ Ay < Ay3 := by
  rw [zm_tk] at em1 em2 em3 el1 el2
  have a1 := zm_A_ge l0 Ay
  have a2 := zm_A_ge l1 Ay1
  have a3 := zm_A_ge l2 Ay2
  have b1 := zm_A_ge m1 Ax
  have b2 := zm_A_ge m2 Ax1
  have b3 := zm_A_ge m3 Ax2
  have g1 := zm_E_ge l0 Ey
  have g2 := zm_E_ge l1 Ey1
  have k1 := zm_E_ge m1 Ex
  have k2 := zm_E_ge m2 Ex1
  rcases Nat.lt_or_ge Ax Ax3 with c | c
  · exact Or.inl c
  rcases Nat.lt_or_ge Ay Ay3 with c' | c'
  · exact Or.inr c'
  exfalso
  have n0 : ∀ f, f ∈ l0 → f.2.2 ≤ Ay := fun f hf => by have := zm_A_mem l0 Ay f hf; omega
  have n1 : ∀ f, f ∈ l1 → f.2.2 ≤ Ay := fun f hf => by have := zm_A_mem l1 Ay1 f hf; omega
  have n2 : ∀ f, f ∈ l2 → f.2.2 ≤ Ay := fun f hf => by have := zm_A_mem l2 Ay2 f hf; omega
  have p1 : ∀ f, f ∈ m1 → f.2.2 ≤ Ax := fun f hf => by have := zm_A_mem m1 Ax f hf; omega
  have p2 : ∀ f, f ∈ m2 → f.2.2 ≤ Ax := fun f hf => by have := zm_A_mem m2 Ax1 f hf; omega
  have p3 : ∀ f, f ∈ m3 → f.2.2 ≤ Ax := fun f hf => by have := zm_A_mem m3 Ax2 f hf; omega
  have q1 : Ay1 = Ay := by omega
  have q2 : Ay2 = Ay := by omega
  have q3 : Ay3 = Ay := by omega
  have r1 : Ax1 = Ax := by omega
  have r2 : Ax2 = Ax := by omega
  have r3 : Ax3 = Ax := by omega
  have hm1 : m1.length ≤ 16 := by rw [em1, List.length_take]; omega
  have hm2 : m2.length ≤ 16 := by rw [em2, List.length_take]; omega
  rw [q1] at em1 em2
  rw [q2] at em2 em3
  rw [q3] at em3
  rw [r1] at el1 el2
  rw [r2] at el2
  rcases Nat.lt_or_ge Ax Bx with cx | cx
  · have hw : 0 < zm_wn W Bx Ax := by unfold zm_wn; omega
    have s1 : ∃ e, ((0, Ax, e) : zm_Fr) ∈ l1 := by
      rw [el1]
      rcases zm_na2 hw m1 16 Ex Ex1 qx p1 hm1 with z | ⟨z1, z2⟩
      · exact z
      · exfalso
        obtain ⟨g, hg, hg2⟩ := zm_all16 (Bx := Bx) (qx := qx) (rest := zm_dt Ax (zm_wn W Bx Ax) Ex1) em1 n0 z1 z2 p1 hy
        rw [← el1] at hg
        have := n1 g hg
        omega
    obtain ⟨e, s1⟩ := s1
    have t1 : Ax < Ey2 := by rw [f2]; exact zm_E_mem l1 Ey1 Ax e s1 (by omega)
    have s2 : ∃ e, ((0, Ax, e) : zm_Fr) ∈ l2 := by
      rw [el2]
      rcases zm_na2 hw m2 16 Ex1 Ex2 qx1 p2 hm2 with z | ⟨z1, z2⟩
      · exact z
      · exfalso
        obtain ⟨g, hg, hg2⟩ := zm_all16 (Bx := Bx) (qx := qx1) (rest := zm_dt Ax (zm_wn W Bx Ax) Ex2) (Ex := Ex1) em2 n1 z1 z2 p2 (by omega)
        rw [← el2] at hg
        have := n2 g hg
        omega
    obtain ⟨e', s2⟩ := s2
    obtain ⟨g, hg, _⟩ := zm_O_resp (W := W) (B := By) l2 Ey2 qy2 Ax e' n2 s2 (by omega)
    obtain ⟨g', hg', hg2⟩ := zm_head_mem (r := zm_dt Ay (zm_wn W By Ay) Ey3) hg
    rw [← em3] at hg2
    have h1 := zm_O_ack l2 _ _ _ g' hg'
    have h2 := p3 g' hg2
    omega
  · have cy : Ay < By := by omega
    have hw : 0 < zm_wn W By Ay := by unfold zm_wn; omega
    have hw0 : zm_wn W Bx Ax = 0 := by unfold zm_wn; omega
    rcases zm_na2 hw l0 16 Ey Ey1 qy n0 hl with ⟨e, z⟩ | ⟨z1, z2⟩
    · rw [← em1] at z
      obtain ⟨g, hg, hg2⟩ := zm_O_resp (W := W) (B := Bx) m1 Ex qx Ay e p1 z hy
      have hs := zm_short_mem (r := zm_dt Ax (zm_wn W Bx Ax) Ex1) hg (Nat.le_trans (zm_O_len hw0 m1 Ex qx p1).1 hm1)
      rw [← el1] at hs
      have := n1 g hs
      omega
    · obtain ⟨o1, o2⟩ := zm_O_all (W := W) (B := By) l0 Ey qy n0 z2
      have em1' : m1 = zm_O W By l0 Ay Ey qy := by
        rw [em1, List.take_append, List.take_of_length_le (by omega), o1, z1]
        simp
      have hno : zm_O W Bx m1 Ax Ex qx = [] := (zm_O_len hw0 m1 Ex qx p1).2 (fun f hf => o2 f (by rw [← em1']; exact hf))
      have el1' : l1 = [] := by rw [el1, hno, hw0]; rfl
      have em2' : m2 = (zm_dt Ay (zm_wn W By Ay) Ey2).take 16 := by rw [em2, el1']; rfl
      have z : ((0, Ay, Ey2) : zm_Fr) ∈ m2 := by
        rw [em2']
        obtain ⟨w, hw⟩ : ∃ w, zm_wn W By Ay = w + 1 := ⟨zm_wn W By Ay - 1, by omega⟩
        rw [hw]
        exact List.mem_cons_self
      obtain ⟨g, hg, hg2⟩ := zm_O_resp (W := W) (B := Bx) m2 Ex1 qx1 Ay Ey2 p2 z (by omega)
      have hs := zm_short_mem (r := zm_dt Ax (zm_wn W Bx Ax) Ex2) hg (Nat.le_trans (zm_O_len hw0 m2 Ex1 qx1 p2).1 hm2)
      rw [← el2] at hs
      have := n2 g hs
      omega
end
section
/-! what holds of both directions; it lasts -/
def zz_u {α : Type} (f : Nat → α) (k : Nat) (x : α) : Nat → α := fun j => if j = k then x else f j
theorem zz_us {α : Type} {f : Nat → α} {k : Nat} {x : α} : zz_u f k x k = x := if_pos rfl
theorem zz_un {α : Type} {f : Nat → α} {k j : Nat} {x : α} (h : j ≠ k) : zz_u f k x j = f j := if_neg h
theorem zz_uu {α : Type} {f : Nat → α} {k : Nat} {x y : α} : zz_u (zz_u f k x) k y = zz_u f k y := by
  funext j
  unfold zz_u
  by_cases h : j = k
  · rw [if_pos h, if_pos h]
  · rw [if_neg h, if_neg h, if_neg h]
theorem zz_ui {α : Type} {f : Nat → α} {k : Nat} {x : α} (h : x = f k) : zz_u f k x = f := by
  funext j
  unfold zz_u
  by_cases h2 : j = k
  · rw [if_pos h2, h2, h]
  · rw [if_neg h2]
/-- sender's base A and end B, receiver's expected E and taken T, the line L, the receiver's base A' and the sender's expected E' -/
def zp_D (W A B E T : Nat) (L : List zm_Fr) (A' E' : Nat) : Prop :=
  T ≤ A ∧ A ≤ E ∧ E ≤ min (A + W) B ∧ B ≤ T + 30 ∧ L.length ≤ 16 ∧
  (∀ f, f ∈ L → f.1 ≤ 2 ∧ A' ≤ f.2.2 ∧ f.2.2 ≤ E' ∧ (f.1 = 0 → f.2.1 < min (A + W) B ∧ E ≤ f.2.1 + 4)) ∧
  L.Pairwise (fun f g => f.2.2 ≤ g.2.2 ∧ (f.1 = 0 → g.1 = 0 → f.2.1 ≤ g.2.1 + 3))
theorem zp_pw {α : Type} {R : α → α → Prop} {P : α → Prop} (h : ∀ a b, P a → P b → R a b) : ∀ l : List α, (∀ a, a ∈ l → P a) → l.Pairwise R := by
  intro l
  induction l with
  | nil => intro _; exact List.Pairwise.nil
  | cons a l ih => intro hl; exact List.Pairwise.cons (fun b hb => h a b (hl a List.mem_cons_self) (hl b (List.mem_cons_of_mem _ hb))) (ih (fun b hb => hl b (List.mem_cons_of_mem _ hb)))
theorem zp_push {W A B E T A' E' : Nat} {L gs : List zm_Fr} (hW : W ≤ 4) (h : zp_D W A B E T L A' E') (hA : A' ≤ E') (hg : ∀ g, g ∈ gs → g.1 ≤ 2 ∧ g.2.2 = E' ∧ (g.1 = 0 → A ≤ g.2.1 ∧ g.2.1 < min (A + W) B)) : zp_D W A B E T ((L ++ gs).take 16) A' E' := by
  obtain ⟨h1, h2, h3, h4, h5, h6, h7⟩ := h
  refine ⟨h1, h2, h3, h4, ?_, ?_, ?_⟩
  · rw [List.length_take]; omega
  · intro f hf
    rcases List.mem_append.mp (List.mem_of_mem_take hf) with z | z
    · exact h6 f z
    · obtain ⟨g1, g2, g3⟩ := hg f z
      refine ⟨g1, by omega, by omega, fun h0 => ?_⟩
      obtain ⟨g4, g5⟩ := g3 h0
      exact ⟨g5, by omega⟩
  · refine List.Pairwise.sublist (List.take_sublist 16 _) (List.pairwise_append.mpr ⟨h7, ?_, ?_⟩)
    · refine zp_pw (P := fun g => g.2.2 = E' ∧ (g.1 = 0 → A ≤ g.2.1 ∧ g.2.1 < min (A + W) B)) ?_ gs (fun g hh => (hg g hh).2)
      intro a b ha hb
      refine ⟨by omega, fun a0 b0 => ?_⟩
      have := ha.2 a0
      have := hb.2 b0
      omega
    · intro a ha b hb
      have c := h6 a ha
      have d := (hg b hb).2
      refine ⟨by omega, fun a0 b0 => ?_⟩
      have := (c.2.2.2 a0).1
      have := d.2 b0
      omega
theorem zp_adv {W A B E T A' E' a : Nat} {L : List zm_Fr} (h : zp_D W A B E T L A' E') (h1 : A ≤ a) (h2 : a ≤ E) : zp_D W a B E T L A' E' := by
  obtain ⟨c1, c2, c3, c4, c5, c6, c7⟩ := h
  refine ⟨by omega, h2, by omega, c4, c5, fun f hf => ?_, c7⟩
  obtain ⟨d1, d2, d3, d4⟩ := c6 f hf
  refine ⟨d1, d2, d3, fun h0 => ?_⟩
  have := d4 h0
  omega
theorem zp_ackup {W A B E T A' E' e : Nat} {L : List zm_Fr} (h : zp_D W A B E T L A' E') (h1 : E' ≤ e) : zp_D W A B E T L A' e := by
  obtain ⟨c1, c2, c3, c4, c5, c6, c7⟩ := h
  refine ⟨c1, c2, c3, c4, c5, fun f hf => ?_, c7⟩
  obtain ⟨d1, d2, d3, d4⟩ := c6 f hf
  exact ⟨d1, d2, by omega, d4⟩
theorem zp_rcv {W A B E T A' E' : Nat} {f : zm_Fr} {l : List zm_Fr} (h : zp_D W A B E T (f :: l) A' E') : zp_D W A B (zm_rE E f.1 f.2.1) T (f :: l) f.2.2 E' := by
  obtain ⟨c1, c2, c3, c4, c5, c6, c7⟩ := h
  obtain ⟨p1, p2⟩ := List.pairwise_cons.mp c7
  obtain ⟨d1, d2, d3, d4⟩ := c6 f List.mem_cons_self
  have key : zm_rE E f.1 f.2.1 = E ∨ (f.1 = 0 ∧ f.2.1 = E ∧ zm_rE E f.1 f.2.1 = E + 1) := by
    unfold zm_rE
    by_cases z : f.1 = 0 ∧ f.2.1 = E
    · rw [if_pos z]; exact Or.inr ⟨z.1, z.2, rfl⟩
    · rw [if_neg z]; exact Or.inl rfl
  generalize zm_rE E f.1 f.2.1 = e at key
  refine ⟨c1, ?_, ?_, c4, c5, fun g hg => ?_, c7⟩
  · rcases key with z | ⟨_, _, z⟩ <;> omega
  · rcases key with z | ⟨z0, z1, z⟩
    · omega
    · have := d4 z0; omega
  · obtain ⟨e1, e2, e3, e4⟩ := c6 g hg
    rcases List.mem_cons.mp hg with z | z
    · subst z
      refine ⟨e1, Nat.le_refl _, e3, fun h0 => ?_⟩
      have := e4 h0
      rcases key with z | ⟨z0, z1, z⟩ <;> omega
    · have hp := p1 g z
      refine ⟨e1, hp.1, e3, fun h0 => ?_⟩
      have := e4 h0
      rcases key with z | ⟨z0, z1, z⟩
      · omega
      · have := hp.2 z0 h0; omega
theorem zp_tail {W A B E T A' E' : Nat} {f : zm_Fr} {l : List zm_Fr} (h : zp_D W A B E T (f :: l) A' E') : zp_D W A B E T l A' E' := by
  obtain ⟨c1, c2, c3, c4, c5, c6, c7⟩ := h
  rw [List.length_cons] at c5
  exact ⟨c1, c2, c3, c4, by omega, fun g hg => c6 g (List.mem_cons_of_mem _ hg), (List.pairwise_cons.mp c7).2⟩
theorem zp_give {W A B E T A' E' : Nat} {L : List zm_Fr} (h : zp_D W A B E T L A' E') (hB : B < T + 30) : zp_D W A (B + 1) E T L A' E' := by
  obtain ⟨c1, c2, c3, c4, c5, c6, c7⟩ := h
  refine ⟨c1, c2, by omega, by omega, c5, fun f hf => ?_, c7⟩
  obtain ⟨d1, d2, d3, d4⟩ := c6 f hf
  refine ⟨d1, d2, d3, fun h0 => ?_⟩
  have := d4 h0
  omega
/-- the answer to a frame keeps the sender's direction -/
theorem zp_answer {W A B E T A' E' k d a : Nat} {q : Bool} {L : List zm_Fr} (hW : W ≤ 4) (h : zp_D W A B E T L A' E') (hA : A' ≤ E') (h1 : A ≤ a) (h2 : a ≤ E) : zp_D W (max A a) B E T ((L ++ zm_out W B A E' q k d a).take 16) A' (zm_rE E' k d) := by
  have hx : max A a = a := Nat.max_eq_right h1
  have hB : a ≤ B := by have := h.2.2.1; omega
  unfold zm_out
  rw [hx, ← List.append_assoc, ← zm_tk]
  have s1 : zp_D W a B E T ((L ++ zm_pre E' q k d).take 16) A' E' := by
    refine zp_push hW (zp_adv h h1 h2) hA (fun g hg => ?_)
    unfold zm_pre at hg
    split at hg
    · rw [List.mem_singleton.mp hg]
      exact ⟨Nat.le_refl 2, rfl, fun z => absurd z (by show ¬ 2 = 0; decide)⟩
    · exact absurd hg (by simp)
  refine zp_push hW (zp_ackup s1 (zm_rE_ge E' k d)) (Nat.le_trans hA (zm_rE_ge E' k d)) (fun g hg => ?_)
  rcases List.mem_append.mp hg with z | z
  · obtain ⟨d1, d2, d3, d4⟩ := zm_dt_mem _ _ _ g z
    refine ⟨by omega, d2, fun _ => ?_⟩
    unfold zm_m at d4
    rw [hx] at d4
    unfold zm_wn at d4
    omega
  · unfold zm_pay at z
    split at z
    · rw [List.mem_singleton.mp z]
      exact ⟨by show 1 ≤ 2; decide, rfl, fun z => absurd z (by show ¬ 1 = 0; decide)⟩
    · exact absurd z (by simp)
theorem zp_window {W A B E T A' E' : Nat} {L : List zm_Fr} (hW : W ≤ 4) (h : zp_D W A B E T L A' E') (hA : A' ≤ E') (lo m : Nat) (hm : lo + m ≤ zm_wn W B A) : zp_D W A B E T ((L ++ zm_dt (A + lo) m E').take 16) A' E' := by
  have hB : A ≤ B := by have := h.2.2.1; have := h.2.1; omega
  refine zp_push hW h hA (fun g hg => ?_)
  obtain ⟨d1, d2, d3, d4⟩ := zm_dt_mem _ _ _ g hg
  refine ⟨by omega, d2, fun _ => ?_⟩
  unfold zm_wn at hm
  omega
/-! both directions at once -/
def zp_I (W : Nat) (B T A E : Nat → Nat) (L : Nat → List zm_Fr) : Prop := 1 ≤ W ∧ W ≤ 4 ∧ ∀ s, s < 2 → zp_D W (A s) (B s) (E (1 - s)) (T (1 - s)) (L s) (A (1 - s)) (E s)
theorem zp_2 {s : Nat} (hs : s < 2) : 1 - s < 2 ∧ 1 - (1 - s) = s ∧ 1 - s ≠ s := by omega
theorem zp_cases {P : Nat → Prop} {s : Nat} (hs : s < 2) (h1 : P s) (h2 : P (1 - s)) : ∀ t, t < 2 → P t := by
  intro t ht
  by_cases e : t = s
  · rw [e]; exact h1
  · have : t = 1 - s := by omega
    rw [this]; exact h2
theorem zp_arrive {W : Nat} {B T A E : Nat → Nat} {L : Nat → List zm_Fr} {s : Nat} {q : Bool} {f : zm_Fr} {l : List zm_Fr} (I : zp_I W B T A E L) (hs : s < 2) (hL : L s = f :: l) : zp_I W B T (zz_u A (1 - s) (max (A (1 - s)) f.2.2)) (zz_u E (1 - s) (zm_rE (E (1 - s)) f.1 f.2.1)) (zz_u L (1 - s) ((L (1 - s) ++ zm_out W (B (1 - s)) (A (1 - s)) (E (1 - s)) q f.1 f.2.1 f.2.2).take 16)) := by
  obtain ⟨w1, w2, I⟩ := I
  obtain ⟨z1, z2, z3⟩ := zp_2 hs
  have Is := I s hs
  have Ir := I (1 - s) z1
  rw [z2] at Ir
  rw [hL] at Is
  obtain ⟨d1, d2, d3, d4⟩ := Is.2.2.2.2.2.1 f List.mem_cons_self
  have hx : max (A (1 - s)) f.2.2 = f.2.2 := Nat.max_eq_right d2
  refine ⟨w1, w2, zp_cases hs ?_ ?_⟩
  · rw [zz_us, zz_us, zz_un (Ne.symm z3), zz_un (Ne.symm z3), zz_un (Ne.symm z3), hL, hx]
    exact zp_rcv Is
  · rw [z2, zz_us, zz_us, zz_us, zz_un (Ne.symm z3), zz_un (Ne.symm z3)]
    exact zp_answer w2 Ir Is.2.1 d2 d3
theorem zp_drop {W : Nat} {B T A E : Nat → Nat} {L : Nat → List zm_Fr} {s : Nat} {f : zm_Fr} {l : List zm_Fr} (I : zp_I W B T A E L) (hs : s < 2) (hL : L s = f :: l) : zp_I W B T A E (zz_u L s l) := by
  obtain ⟨w1, w2, I⟩ := I
  obtain ⟨z1, z2, z3⟩ := zp_2 hs
  refine ⟨w1, w2, zp_cases hs ?_ ?_⟩
  · have Is := I s hs
    rw [hL] at Is
    rw [zz_us]
    exact zp_tail Is
  · rw [zz_un z3]
    exact I (1 - s) z1
theorem zp_flush {W : Nat} {B T A E : Nat → Nat} {L : Nat → List zm_Fr} {s : Nat} (I : zp_I W B T A E L) (hs : s < 2) : zp_I W B T A E (zz_u L s ((L s ++ zm_dt (A s) (zm_wn W (B s) (A s)) (E s)).take 16)) := by
  obtain ⟨w1, w2, I⟩ := I
  obtain ⟨z1, z2, z3⟩ := zp_2 hs
  refine ⟨w1, w2, zp_cases hs ?_ ?_⟩
  · have Ir := I (1 - s) z1
    rw [z2] at Ir
    rw [zz_us]
    exact zp_window w2 (I s hs) Ir.2.1 0 (zm_wn W (B s) (A s)) (by omega)
  · rw [zz_un z3]
    exact I (1 - s) z1
end
section
/-! rounds over both stations: (A, E, q, L) -/
abbrev zg_S : Type := (Nat → Nat) × (Nat → Nat) × (Nat → Bool) × (Nat → List zm_Fr)
def zg_fl (W : Nat) (B : Nat → Nat) (s : Nat) (g : zg_S) : zg_S := (g.1, g.2.1, g.2.2.1, zz_u g.2.2.2 s ((g.2.2.2 s ++ zm_dt (g.1 s) (zm_wn W (B s) (g.1 s)) (g.2.1 s)).take 16))
def zg_ar (W : Nat) (B : Nat → Nat) (s : Nat) (f : zm_Fr) (g : zg_S) : zg_S := (zz_u g.1 (1 - s) (max (g.1 (1 - s)) f.2.2), zz_u g.2.1 (1 - s) (zm_rE (g.2.1 (1 - s)) f.1 f.2.1), zz_u g.2.2.1 (1 - s) (zm_rq (g.2.1 (1 - s)) (g.2.2.1 (1 - s)) f.1 f.2.1), zz_u g.2.2.2 (1 - s) ((g.2.2.2 (1 - s) ++ zm_out W (B (1 - s)) (g.1 (1 - s)) (g.2.1 (1 - s)) (g.2.2.1 (1 - s)) f.1 f.2.1 f.2.2).take 16))
def zg_dr (s : Nat) (l : List zm_Fr) (g : zg_S) : zg_S := (g.1, g.2.1, g.2.2.1, zz_u g.2.2.2 s l)
def zg_em (W : Nat) (B : Nat → Nat) (s : Nat) (g : zg_S) : zg_S := (zz_u g.1 (1 - s) (zm_A (g.2.2.2 s) (g.1 (1 - s))), zz_u g.2.1 (1 - s) (zm_E (g.2.2.2 s) (g.2.1 (1 - s))), zz_u g.2.2.1 (1 - s) (zm_q (g.2.2.2 s) (g.2.1 (1 - s)) (g.2.2.1 (1 - s))), zz_u (zz_u g.2.2.2 s []) (1 - s) ((g.2.2.2 (1 - s) ++ zm_O W (B (1 - s)) (g.2.2.2 s) (g.1 (1 - s)) (g.2.1 (1 - s)) (g.2.2.1 (1 - s))).take 16))
def zg_I (W : Nat) (B T : Nat → Nat) (g : zg_S) : Prop := zp_I W B T g.1 g.2.1 g.2.2.2
theorem zg_em_nil {W : Nat} {B : Nat → Nat} {s : Nat} {g : zg_S} (hs : s < 2) (hL : g.2.2.2 s = []) (hl : (g.2.2.2 (1 - s)).length ≤ 16) : zg_em W B s g = g := by
  obtain ⟨A, E, q, L⟩ := g
  dsimp only at hL hl
  unfold zg_em
  dsimp only
  have e1 : zz_u L s [] = L := zz_ui hL.symm
  rw [e1, hL]
  refine Prod.ext (zz_ui rfl) (Prod.ext (zz_ui rfl) (Prod.ext (zz_ui rfl) (zz_ui ?_)))
  show (L (1 - s) ++ []).take 16 = L (1 - s)
  rw [List.append_nil, List.take_of_length_le hl]
theorem zg_em_cons {W : Nat} {B : Nat → Nat} {s : Nat} {g : zg_S} {f : zm_Fr} {l : List zm_Fr} (hs : s < 2) (hL : g.2.2.2 s = f :: l) : zg_em W B s g = zg_em W B s (zg_dr s l (zg_ar W B s f g)) := by
  obtain ⟨A, E, q, L⟩ := g
  obtain ⟨z1, z2, z3⟩ := zp_2 hs
  dsimp only at hL
  unfold zg_em zg_dr zg_ar
  dsimp only
  rw [zz_us, zz_us, zz_us, zz_us, zz_un z3, zz_us, hL, zz_uu, zz_uu, zz_uu]
  refine Prod.ext rfl (Prod.ext rfl (Prod.ext rfl ?_))
  dsimp only
  rw [zm_tk, List.append_assoc]
  funext t
  by_cases h1 : t = 1 - s
  · rw [h1, zz_us, zz_us]
    rfl
  · rw [zz_un h1, zz_un h1]
    by_cases h2 : t = s
    · rw [h2, zz_us, zz_us]
    · rw [zz_un h2, zz_un h2, zz_un h2, zz_un h1]
theorem zg_I_fl {W : Nat} {B T : Nat → Nat} {s : Nat} {g : zg_S} (I : zg_I W B T g) (hs : s < 2) : zg_I W B T (zg_fl W B s g) := zp_flush I hs
theorem zg_I_ar {W : Nat} {B T : Nat → Nat} {s : Nat} {g : zg_S} {f : zm_Fr} {l : List zm_Fr} (I : zg_I W B T g) (hs : s < 2) (hL : g.2.2.2 s = f :: l) : zg_I W B T (zg_ar W B s f g) := zp_arrive I hs hL
theorem zg_ar_L {W : Nat} {B : Nat → Nat} {s : Nat} {g : zg_S} {f : zm_Fr} (hs : s < 2) : (zg_ar W B s f g).2.2.2 s = g.2.2.2 s := zz_un (Ne.symm (zp_2 hs).2.2)
theorem zg_I_dr {W : Nat} {B T : Nat → Nat} {s : Nat} {g : zg_S} {f : zm_Fr} {l : List zm_Fr} (I : zg_I W B T g) (hs : s < 2) (hL : g.2.2.2 s = f :: l) : zg_I W B T (zg_dr s l g) := zp_drop I hs hL
theorem zg_I_em {W : Nat} {B T : Nat → Nat} {s : Nat} (hs : s < 2) : ∀ (l : List zm_Fr) (g : zg_S), zg_I W B T g → g.2.2.2 s = l → zg_I W B T (zg_em W B s g) := by
  intro l
  induction l with
  | nil =>
    intro g I hL
    rw [zg_em_nil hs hL (I.2.2 (1 - s) (zp_2 hs).1).2.2.2.2.1]
    exact I
  | cons f l ih =>
    intro g I hL
    rw [zg_em_cons hs hL]
    refine ih _ (zg_I_dr (zg_I_ar I hs hL) hs ((zg_ar_L hs).trans hL)) ?_
    exact zz_us
def zg_rnd (W : Nat) (B : Nat → Nat) (g : zg_S) : zg_S := zg_em W B 1 (zg_fl W B 1 (zg_em W B 0 (zg_fl W B 0 g)))
theorem zg_I_rnd {W : Nat} {B T : Nat → Nat} {g : zg_S} (I : zg_I W B T g) : zg_I W B T (zg_rnd W B g) :=
  zg_I_em (by decide) _ _ (zg_I_fl (zg_I_em (by decide) _ _ (zg_I_fl I (by decide)) rfl) (by decide)) rfl
theorem zg_em_L {W : Nat} {B : Nat → Nat} {s : Nat} {g : zg_S} (hs : s < 2) : (zg_em W B s g).2.2.2 s = [] := by
  unfold zg_em
  dsimp only
  rw [zz_un (Ne.symm (zp_2 hs).2.2), zz_us]
theorem zg_rnd_L {W : Nat} {B : Nat → Nat} {g : zg_S} : (zg_rnd W B g).2.2.2 1 = [] := zg_em_L (by decide)
/-- a half round from a state with the other line empty -/
def zg_half (W : Nat) (B : Nat → Nat) (s : Nat) (g : zg_S) (l : List zm_Fr) (h : zg_S) : Prop :=
  l = (g.2.2.2 s ++ zm_dt (g.1 s) (zm_wn W (B s) (g.1 s)) (g.2.1 s)).take 16 ∧
  h.1 s = g.1 s ∧ h.2.1 s = g.2.1 s ∧ h.2.2.1 s = g.2.2.1 s ∧ h.2.2.2 s = [] ∧
  h.1 (1 - s) = zm_A l (g.1 (1 - s)) ∧ h.2.1 (1 - s) = zm_E l (g.2.1 (1 - s)) ∧ h.2.2.1 (1 - s) = zm_q l (g.2.1 (1 - s)) (g.2.2.1 (1 - s)) ∧
  h.2.2.2 (1 - s) = (zm_O W (B (1 - s)) l (g.1 (1 - s)) (g.2.1 (1 - s)) (g.2.2.1 (1 - s))).take 16
theorem zg_half_of {W : Nat} {B : Nat → Nat} {s : Nat} {g : zg_S} (hs : s < 2) (hL : g.2.2.2 (1 - s) = []) : ∃ l, zg_half W B s g l (zg_em W B s (zg_fl W B s g)) := by
  obtain ⟨A, E, q, L⟩ := g
  obtain ⟨z1, z2, z3⟩ := zp_2 hs
  dsimp only at hL
  refine ⟨_, rfl, ?_⟩
  unfold zg_em zg_fl
  dsimp only
  rw [zz_un (Ne.symm z3), zz_un (Ne.symm z3), zz_un (Ne.symm z3), zz_un (Ne.symm z3), zz_us, zz_us, zz_us, zz_us, zz_us, zz_us, zz_un z3, hL]
  exact ⟨rfl, rfl, rfl, rfl, rfl, rfl, rfl, rfl⟩
def zg_mu (B : Nat → Nat) (g : zg_S) : Nat := (B 0 - g.1 0) + (B 1 - g.1 1)
theorem zg_prog {W : Nat} {B T : Nat → Nat} {g : zg_S} (I : zg_I W B T g) (hL : g.2.2.2 1 = []) (hm : 0 < zg_mu B g) : zg_mu B (zg_rnd W B (zg_rnd W B (zg_rnd W B g))) < zg_mu B g := by
  have J := zg_I_rnd (zg_I_rnd (zg_I_rnd I))
  obtain ⟨l0, a1, a2, a3, a4, a5, a6, a7, a8, a9⟩ := zg_half_of (W := W) (B := B) (s := 0) (g := g) (by decide) hL
  generalize eg1 : zg_em W B 0 (zg_fl W B 0 g) = g1 at a2 a3 a4 a5 a6 a7 a8 a9
  obtain ⟨m1, b1, b2, b3, b4, b5, b6, b7, b8, b9⟩ := zg_half_of (W := W) (B := B) (s := 1) (g := g1) (by decide) a5
  generalize eg2 : zg_em W B 1 (zg_fl W B 1 g1) = g2 at b2 b3 b4 b5 b6 b7 b8 b9
  obtain ⟨l1, c1, c2, c3, c4, c5, c6, c7, c8, c9⟩ := zg_half_of (W := W) (B := B) (s := 0) (g := g2) (by decide) b5
  generalize eg3 : zg_em W B 0 (zg_fl W B 0 g2) = g3 at c2 c3 c4 c5 c6 c7 c8 c9
  obtain ⟨m2, d1, d2, d3, d4, d5, d6, d7, d8, d9⟩ := zg_half_of (W := W) (B := B) (s := 1) (g := g3) (by decide) c5
  generalize eg4 : zg_em W B 1 (zg_fl W B 1 g3) = g4 at d2 d3 d4 d5 d6 d7 d8 d9
  obtain ⟨l2, e1, e2, e3, e4, e5, e6, e7, e8, e9⟩ := zg_half_of (W := W) (B := B) (s := 0) (g := g4) (by decide) d5
  generalize eg5 : zg_em W B 0 (zg_fl W B 0 g4) = g5 at e2 e3 e4 e5 e6 e7 e8 e9
  obtain ⟨m3, f1, f2, f3, f4, f5, f6, f7, f8, f9⟩ := zg_half_of (W := W) (B := B) (s := 1) (g := g5) (by decide) e5
  generalize eg6 : zg_em W B 1 (zg_fl W B 1 g5) = g6 at f2 f3 f4 f5 f6 f7 f8 f9
  have er : zg_rnd W B (zg_rnd W B (zg_rnd W B g)) = g6 := by
    unfold zg_rnd
    rw [eg1, eg2, eg3, eg4, eg5, eg6]
  rw [er] at J ⊢
  have x0 : (1 - 0 : Nat) = 1 := rfl
  have x1 : (1 - 1 : Nat) = 0 := rfl
  rw [x0] at a6 a7 a8 a9 c6 c7 c8 c9 e6 e7 e8 e9
  rw [x1] at b6 b7 b8 b9 d6 d7 d8 d9 f6 f7 f8 f9
  have I0 := I.2.2 0 (by decide)
  have I1 := I.2.2 1 (by decide)
  have J0 := J.2.2 0 (by decide)
  have J1 := J.2.2 1 (by decide)
  rw [x0] at I0 J0
  rw [x1] at I1 J1
  have hl0 : l0.length ≤ 16 := by rw [a1, List.length_take]; omega
  have P := zm_prog (W := W) (Bx := B 0) (By := B 1) (Ax := g.1 0) (Ex := g.2.1 0) (Ay := g.1 1) (Ey := g.2.1 1) (qx := g.2.2.1 0) (qy := g.2.2.1 1)
    (l0 := l0) (l1 := l1) (l2 := l2) (m1 := m1) (m2 := m2) (m3 := m3)
    (Ay1 := g1.1 1) (Ey1 := g1.2.1 1) (Ax1 := g2.1 0) (Ex1 := g2.2.1 0) (Ay2 := g3.1 1) (Ey2 := g3.2.1 1) (Ax2 := g4.1 0) (Ex2 := g4.2.1 0) (Ay3 := g5.1 1) (Ey3 := g5.2.1 1) (Ax3 := g6.1 0)
    (qy1 := g1.2.2.1 1) (qx1 := g2.2.2.1 0) (qy2 := g3.2.2.1 1)
    I.1 I0.2.1 I1.2.1 hl0 a6 a7
    (by rw [b1, a9])
    (by rw [b6, a2]) (by rw [b7, a3])
    (by rw [c1, b9, a2, a3, a4])
    (by rw [c6, b2]) (by rw [c7, b3])
    (by rw [d1, c9, b2, b3, b4])
    (by rw [d6, c2]) (by rw [d7, c3])
    (by rw [e1, d9, c2, c3, c4])
    (by rw [e6, d2]) (by rw [e7, d3])
    (by rw [f1, e9, d2, d3, d4])
    (by rw [f6, e2])
    (by unfold zg_mu at hm; omega)
  have v1 := zm_A_ge l0 (g.1 1)
  have v2 := zm_A_ge m1 (g1.1 0)
  have v3 := zm_A_ge l1 (g2.1 1)
  have v4 := zm_A_ge m2 (g3.1 0)
  have v5 := zm_A_ge l2 (g4.1 1)
  have v6 := zm_A_ge m3 (g5.1 0)
  have k0 : g6.1 0 ≤ B 0 := by have := J0.2.1; have := J0.2.2.1; omega
  have k1 : g6.1 1 ≤ B 1 := by have := J1.2.1; have := J1.2.2.1; omega
  unfold zg_mu
  omega
def zg_it (W : Nat) (B : Nat → Nat) : Nat → zg_S → zg_S
  | 0, g => g
  | m + 1, g => zg_it W B m (zg_rnd W B g)
theorem zg_fin {W : Nat} {B T : Nat → Nat} : ∀ (n : Nat) (g : zg_S), zg_I W B T g → g.2.2.2 1 = [] → zg_mu B g ≤ n → ∃ m, m ≤ 3 * n ∧ zg_mu B (zg_it W B m g) = 0 := by
  intro n
  induction n with
  | zero => intro g _ _ h; exact ⟨0, Nat.le_refl _, Nat.le_zero.mp h⟩
  | succ n ih =>
    intro g I hL h
    rcases Nat.eq_zero_or_pos (zg_mu B g) with z | z
    · exact ⟨0, Nat.zero_le _, z⟩
    · have hp := zg_prog I hL z
      obtain ⟨m, h1, h2⟩ := ih _ (zg_I_rnd (zg_I_rnd (zg_I_rnd I))) zg_rnd_L (by omega)
      exact ⟨m + 3, by omega, h2⟩
theorem zg_done {W : Nat} {B T : Nat → Nat} {g : zg_S} (I : zg_I W B T g) : ∃ m, m ≤ 200 ∧ zg_mu B (zg_it W B m g) = 0 := by
  have J := zg_I_rnd I
  have J0 := J.2.2 0 (by decide)
  have J1 := J.2.2 1 (by decide)
  have hb : zg_mu B (zg_rnd W B g) ≤ 60 := by
    have c1 := J0.1
    have c2 := J0.2.2.2.1
    have c3 := J1.1
    have c4 := J1.2.2.2.1
    unfold zg_mu
    omega
  obtain ⟨m, h1, h2⟩ := zg_fin 60 _ J zg_rnd_L hb
  exact ⟨m + 1, by omega, h2⟩
end
section
/-! the component's state against the ghosts -/
def zc_a (a : Nat → Int32) (f : Nat → Nat) : Prop := ∀ s, s < 2 → a s = nI (f s)
def zc_b (a : Nat → Int32) (q : Nat → Bool) : Prop := ∀ s, s < 2 → a s = if q s = true then 1 else 0
def zc_g (a : Nat → Int32) (bf : Nat → Nat → Nat) (lo hi : Nat → Nat) : Prop := ∀ s, s < 2 → ∀ j, lo s ≤ j → j < hi s → a (s * 32 + j % 32) = nI (bf s j)
def zc_l (a : Nat → Int32) (bf : Nat → Nat → Nat) (L : Nat → List zm_Fr) : Prop := ∀ s, s < 2 → (L s).length ≤ 16 ∧ ∀ i f, (L s)[i]? = some f → a (s * 16 + i) = zk_enc (bf s) f
def zc_R (W : Nat) (A B E T u : Nat → Nat) (q o : Nat → Bool) (L : Nat → List zm_Fr) (bf : Nat → Nat → Nat) (X : SX) : Prop := match X with
  | (fw, sh, sc, sb, fn, uw, ex, aq, ow, gh, gc, gb, fi, fs, fr) => fw = nI W ∧ zc_a sh (fun s => A s % 32) ∧ zc_a sc (fun s => B s - A s) ∧ zc_g sb bf A B ∧ zc_a fn (fun s => A s % 8) ∧ zc_a uw u ∧ zc_a ex (fun s => E s % 8) ∧ zc_b aq q ∧ zc_b ow o ∧ zc_a gh (fun s => T s % 32) ∧ zc_a gc (fun s => E s - T s) ∧ zc_g gb (fun s => bf (1 - s)) T E ∧ zc_a fi T ∧ zc_a fs (fun s => (L s).length) ∧ zc_l fr bf L
theorem zc_au {a : Nat → Int32} {f g : Nat → Nat} {s : Nat} {v : Int32} (h : zc_a a f) (hv : v = nI (g s)) (hg : ∀ t, t ≠ s → g t = f t) : zc_a (upd a s v) g := by
  intro t ht
  by_cases e : t = s
  · rw [e, pk_us, hv]
  · rw [pk_un e, h t ht, hg t e]
theorem zc_bu {a : Nat → Int32} {f : Nat → Bool} {s : Nat} {v : Int32} (b : Bool) (h : zc_b a f) (hv : v = if b = true then 1 else 0) : zc_b (upd a s v) (zz_u f s b) := by
  intro t ht
  by_cases e : t = s
  · rw [e, pk_us, zz_us, hv]
  · rw [pk_un e, h t ht, zz_un e]
theorem zc_push {a : Nat → Int32} {bf : Nat → Nat → Nat} {L : Nat → List zm_Fr} {s : Nat} (f : zm_Fr) (h : zc_l a bf L) (hs : s < 2) (hl : (L s).length < 16) : zc_l (upd a (s * 16 + (L s).length) (zk_enc (bf s) f)) bf (zz_u L s ((L s ++ [f]).take 16)) := by
  have e0 : (L s ++ [f]).take 16 = L s ++ [f] := List.take_of_length_le (by rw [List.length_append]; exact hl)
  rw [e0]
  intro t ht
  obtain ⟨h1, h2⟩ := h t ht
  by_cases e : t = s
  · subst e
    rw [zz_us]
    refine ⟨by rw [List.length_append]; exact hl, fun i g hg => ?_⟩
    rcases Nat.lt_trichotomy i (L t).length with z | z | z
    · rw [List.getElem?_append_left z] at hg
      rw [pk_un (by omega)]
      exact h2 i g hg
    · subst z
      rw [List.getElem?_append_right (Nat.le_refl _), Nat.sub_self] at hg
      have : f = g := Option.some.inj hg
      rw [pk_us, this]
    · rw [List.getElem?_eq_none (by rw [List.length_append]; exact z)] at hg
      exact absurd hg (by simp)
  · rw [zz_un e]
    refine ⟨h1, fun i g hg => ?_⟩
    have hi : i < (L t).length := by
      rcases Nat.lt_or_ge i (L t).length with z | z
      · exact z
      · rw [List.getElem?_eq_none z] at hg
        exact absurd hg (by simp)
    rw [pk_un (by omega)]
    exact h2 i g hg
theorem zc_full {L : Nat → List zm_Fr} {s : Nat} {gs : List zm_Fr} (h : (L s).length = 16) : zz_u L s ((L s ++ gs).take 16) = L := by
  refine zz_ui ?_
  rw [List.take_append, h, Nat.sub_self, List.take_zero, List.append_nil, List.take_of_length_le (by omega)]
theorem zc_none {L : Nat → List zm_Fr} {s : Nat} (h : (L s).length ≤ 16) : zz_u L s ((L s ++ []).take 16) = L := by
  refine zz_ui ?_
  rw [List.append_nil, List.take_of_length_le h]
/-! small sums -/
theorem zx_16 (s i : Nat) : nI s * 16 + nI i = nI (s * 16 + i) := by
  rw [show (16 : Int32) = nI 16 from rfl, pk_mul, nI_add]
theorem zx_m32 {a b : Nat} (h : b < 2 ^ 31) : (nI (a % 32) + nI b) &&& 31 = nI ((a + b) % 32) := by
  rw [nI_add, zk_andP (p := 32) (by omega) 5 (by decide) (by decide)]
  have e : (a % 32 + b) % 32 = (a + b) % 32 := by omega
  rw [e]
theorem zx_m8 {a b : Nat} (h : b < 2 ^ 31) : (nI (a % 8) + nI b) &&& 7 = nI ((a + b) % 8) := by
  rw [nI_add, zk_andP (p := 8) (by omega) 3 (by decide) (by decide)]
  have e : (a % 8 + b) % 8 = (a + b) % 8 := by omega
  rw [e]
theorem zx_32 (s i : Nat) : nI s * 32 + nI i = nI (s * 32 + i) := by
  rw [show (32 : Int32) = nI 32 from rfl, pk_mul, nI_add]
theorem zx_s8 (a b : Nat) : (nI (a % 8) - nI (b % 8)) &&& 7 = nI ((a % 8 + 8 - b % 8) % 8) :=
  (by decide +kernel : ∀ x, x < 8 → ∀ y, y < 8 → (nI x - nI y) &&& 7 = nI ((x + 8 - y) % 8)) _ (Nat.mod_lt _ (by decide)) _ (Nat.mod_lt _ (by decide))
/-! sending -/
theorem zx_send {post : SX → Prop} {W : Nat} {A B E T u : Nat → Nat} {q o : Nat → Bool} {L : Nat → List zm_Fr} {bf : Nat → Nat → Nat} {X : SX} {s : Nat} (k d : Nat) {x2 x3 x4 : Int32} (h : zc_R W A B E T u q o L bf X) (hs : s < 2) (hk : k ≤ 2) (hb : ∀ j, bf s j < 512) (e2 : x2 = nI k) (e3 : x3 = nI (zk_num k d)) (e4 : x4 = nI (zk_byt (bf s) k d))
    (hp : ∀ X', zc_R W A B E T u q (zz_u o s false) (zz_u L s ((L s ++ [(k, d, E s)]).take 16)) bf X' → post X') : wpX_send post X (nI s) x2 x3 x4 := by
  obtain ⟨fw, sh, sc, sb, fn, uw, ex, aq, ow, gh, gc, gb, fi, fs, fr⟩ := X
  obtain ⟨r1, r2, r3, r4, r5, r6, r7, r8, r9, r10, r11, r12, r13, r14, r15⟩ := h
  subst e2 e3 e4
  have hc : (nI s).toNatClampNeg = s := nI_clamp (by omega)
  have hi : vp_in (nI s) 2 := vp_in_nI hs (by decide)
  have hL := (r15 s hs).1
  have r14' : fs s = nI (L s).length := r14 s hs
  have r7' : ex s = nI (E s % 8) := r7 s hs
  have ec : (nI (s * 16 + (L s).length)).toNatClampNeg = s * 16 + (L s).length := nI_clamp (by omega)
  unfold wpX_send
  simp only [hc, r14', r7', zx_16, ec]
  have hq : zc_b (upd ow s (vp_nar .boolean 0)) (zz_u o s false) := zc_bu false r9 rfl
  refine ⟨hi, nm_e ⟨hi, pk_lt (L s).length 16 (fun hlt => ?_) (fun hge => ?_)⟩⟩
  · refine ⟨hi, nm_r (zk_content (by omega) (zk_num_lt k d) (Nat.mod_lt _ (by decide)) (zk_byt_lt hb k d)) ⟨hi, zk_with ⟨vp_in_nI (by omega) (by decide), nm_e ⟨hi, hi, nm_e (hp _ ?_)⟩⟩⟩⟩
    refine ⟨r1, r2, r3, r4, r5, r6, r7, r8, hq, r10, r11, r12, r13, ?_, ?_⟩
    · refine zc_au r14 ?_ (fun t ht => by rw [zz_un ht])
      rw [zz_us, nI_1, List.length_take, List.length_append]
      have e : min 16 ((L s).length + [(k, d, E s)].length) = (L s).length + 1 := by
        show min 16 ((L s).length + 1) = _
        omega
      rw [e]
    · exact zc_push (k, d, E s) r15 hs hlt
  · refine hp _ ?_
    rw [zc_full (by omega)]
    exact ⟨r1, r2, r3, r4, r5, r6, r7, r8, hq, r10, r11, r12, r13, r14, r15⟩
theorem zx_more0 {post : SX → Prop} {W : Nat} {A B E T : Nat → Nat} {q : Nat → Bool} {bf : Nat → Nat → Nat} {s : Nat} (hs : s < 2) (hb : ∀ j, bf s j < 512) (hW : W ≤ 4) (hB : B s < A s + 32) : ∀ (m n : Nat) (u : Nat → Nat) (o : Nat → Bool) (L : Nat → List zm_Fr) (fw : Int32) (sh sc sb fn uw ex aq ow gh gc gb fi fs fr : Nat → Int32), zc_R W A B E T u q o L bf (fw, sh, sc, sb, fn, uw, ex, aq, ow, gh, gc, gb, fi, fs, fr) → u s + m = zm_wn W (B s) (A s) → m < n →
    (∀ X', zc_R W A B E T (zz_u u s (u s + m)) q (if m = 0 then o else zz_u o s false) (zz_u L s ((L s ++ zm_dt (A s + u s) m (E s)).take 16)) bf X' → post X') → wX_sendMore_0 post (nI s) n fw sh sc sb fn uw ex aq ow gh gc gb fi fs fr := by
  intro m
  have hc : (nI s).toNatClampNeg = s := nI_clamp (by omega)
  have hi : vp_in (nI s) 2 := vp_in_nI hs (by decide)
  induction m with
  | zero =>
    intro n u o L fw sh sc sb fn uw ex aq ow gh gc gb fi fs fr h hu hn hp
    obtain ⟨n, rfl⟩ : ∃ k, n = k + 1 := ⟨n - 1, by omega⟩
    have h0 := h
    obtain ⟨r1, r2, r3, r4, r5, r6, r7, r8, r9, r10, r11, r12, r13, r14, r15⟩ := h
    have hL := (r15 s hs).1
    have r6' : uw s = nI (u s) := r6 s hs
    have r3' : sc s = nI (B s - A s) := r3 s hs
    have hpp : post (fw, sh, sc, sb, fn, uw, ex, aq, ow, gh, gc, gb, fi, fs, fr) := by
      refine hp _ ?_
      rw [zz_ui (Nat.add_zero _), if_pos rfl]
      show zc_R W A B E T u q o (zz_u L s ((L s ++ []).take 16)) bf _
      rw [zc_none hL]
      exact h0
    unfold zm_wn at hu
    unfold wX_sendMore_0
    simp only [hc, r6', r3', r1]
    rw [r1] at hpp
    exact ⟨hi, pk_le W (u s) (fun _ => hpp) (fun h1 => ⟨hi, hi, pk_le (B s - A s) (u s) (fun _ => hpp) (fun h2 => by omega)⟩)⟩
  | succ m ih =>
    intro n u o L fw sh sc sb fn uw ex aq ow gh gc gb fi fs fr h hu hn hp
    obtain ⟨n, rfl⟩ : ∃ k, n = k + 1 := ⟨n - 1, by omega⟩
    obtain ⟨r1, r2, r3, r4, r5, r6, r7, r8, r9, r10, r11, r12, r13, r14, r15⟩ := h
    have r6' : uw s = nI (u s) := r6 s hs
    have r3' : sc s = nI (B s - A s) := r3 s hs
    have r2' : sh s = nI (A s % 32) := r2 s hs
    have r5' : fn s = nI (A s % 8) := r5 s hs
    unfold zm_wn at hu
    have r4' : sb (s * 32 + (A s + u s) % 32) = nI (bf s (A s + u s)) := r4 s hs (A s + u s) (by omega) (by omega)
    have ec : (nI (s * 32 + (A s + u s) % 32)).toNatClampNeg = s * 32 + (A s + u s) % 32 := nI_clamp (by omega)
    have em : (nI (A s % 32) + nI (u s)) &&& 31 = nI ((A s + u s) % 32) := zx_m32 (by omega)
    have em8 : (nI (A s % 8) + nI (u s)) &&& 7 = nI ((A s + u s) % 8) := zx_m8 (by omega)
    unfold wX_sendMore_0
    simp only [hc, r6', r3', r2', r5', r1]
    refine ⟨hi, br_f (nI_ge (by omega) (by omega)) ⟨hi, hi, br_f (nI_ge (by omega) (by omega)) ⟨hi, nm_e ⟨hi, ?_, ?_⟩⟩⟩⟩
    · rw [em, zx_32]
      exact vp_in_nI (by omega) (by decide)
    · rw [em, zx_32, ec, r4', em8]
      refine nm_e ⟨hi, hi, nm_e ⟨hi, zx_send (W := W) (A := A) (B := B) (E := E) (T := T) (u := zz_u u s (u s + 1)) (q := q) (o := o) (L := L) (bf := bf) 0 (A s + u s) ?_ hs (by decide) hb rfl rfl rfl ?_⟩⟩
      · exact ⟨rfl, r2, r3, r4, r5, zc_au r6 (by rw [zz_us, nI_1]) (fun t ht => zz_un ht), r7, r8, r9, r10, r11, r12, r13, r14, r15⟩
      · rintro ⟨fw', sh', sc', sb', fn', uw', ex', aq', ow', gh', gc', gb', fi', fs', fr'⟩ h'
        refine ih n _ _ _ _ _ _ _ _ _ _ _ _ _ _ _ _ _ _ h' ?_ (by omega) (fun X'' h'' => hp X'' ?_)
        · rw [zz_us]
          unfold zm_wn
          omega
        · rw [zz_uu, zz_uu, zz_uu, zz_us, zz_us, zm_tk, List.append_assoc] at h''
          have e1 : u s + 1 + m = u s + (m + 1) := by omega
          have e2 : A s + (u s + 1) = A s + u s + 1 := by omega
          rw [e1, e2, ite_self] at h''
          rw [if_neg (by omega)]
          exact h''
theorem zx_more {post : SX → Prop} {W : Nat} {A B E T u : Nat → Nat} {q o : Nat → Bool} {L : Nat → List zm_Fr} {bf : Nat → Nat → Nat} {X : SX} {s : Nat} (m : Nat) (h : zc_R W A B E T u q o L bf X) (hs : s < 2) (hb : ∀ j, bf s j < 512) (hW : W ≤ 4) (hB : B s < A s + 32) (hu : u s + m = zm_wn W (B s) (A s))
    (hp : ∀ X', zc_R W A B E T (zz_u u s (u s + m)) q (if m = 0 then o else zz_u o s false) (zz_u L s ((L s ++ zm_dt (A s + u s) m (E s)).take 16)) bf X' → post X') : wpX_sendMore post X (nI s) := by
  obtain ⟨fw, sh, sc, sb, fn, uw, ex, aq, ow, gh, gc, gb, fi, fs, fr⟩ := X
  exact ⟨m + 1, zx_more0 hs hb hW hB m (m + 1) u o L _ _ _ _ _ _ _ _ _ _ _ _ _ _ _ h hu (by omega) hp⟩
theorem zx_back {post : SX → Prop} {W : Nat} {A B E T u : Nat → Nat} {q o : Nat → Bool} {L : Nat → List zm_Fr} {bf : Nat → Nat → Nat} {X : SX} {s : Nat} (h : zc_R W A B E T u q o L bf X) (hs : s < 2) (hb : ∀ j, bf s j < 512) (hW : W ≤ 4) (hB : B s < A s + 32)
    (hp : ∀ X', zc_R W A B E T (zz_u u s (zm_wn W (B s) (A s))) q (if zm_wn W (B s) (A s) = 0 then o else zz_u o s false) (zz_u L s ((L s ++ zm_dt (A s) (zm_wn W (B s) (A s)) (E s)).take 16)) bf X' → post X') : wpX_goBack post X (nI s) := by
  obtain ⟨fw, sh, sc, sb, fn, uw, ex, aq, ow, gh, gc, gb, fi, fs, fr⟩ := X
  obtain ⟨r1, r2, r3, r4, r5, r6, r7, r8, r9, r10, r11, r12, r13, r14, r15⟩ := h
  have hc : (nI s).toNatClampNeg = s := nI_clamp (by omega)
  have hi : vp_in (nI s) 2 := vp_in_nI hs (by decide)
  unfold wpX_goBack
  simp only [hc]
  refine ⟨hi, nm_e (zx_more (W := W) (A := A) (B := B) (E := E) (T := T) (u := zz_u u s 0) (q := q) (o := o) (L := L) (bf := bf) (zm_wn W (B s) (A s)) ?_ hs hb hW hB (by rw [zz_us, Nat.zero_add]) ?_)⟩
  · exact ⟨r1, r2, r3, r4, r5, zc_au r6 (by rw [zz_us]; rfl) (fun t ht => zz_un ht), r7, r8, r9, r10, r11, r12, r13, r14, r15⟩
  · rintro ⟨fw', sh', sc', sb', fn', uw', ex', aq', ow', gh', gc', gb', fi', fs', fr'⟩ h'
    rw [zz_uu, zz_us, Nat.zero_add, Nat.add_zero] at h'
    exact hp _ h'
theorem zx_confirm {post : SX → Prop} {W : Nat} {A B E T u : Nat → Nat} {q o : Nat → Bool} {L : Nat → List zm_Fr} {bf : Nat → Nat → Nat} {X : SX} {s a : Nat} (h : zc_R W A B E T u q o L bf X) (hs : s < 2) (h1 : A s ≤ a) (h2 : a ≤ A s + u s) (hu : u s ≤ 7) (hB : B s < A s + 32) (hB2 : u s ≤ B s - A s)
    (hp : ∀ X', zc_R W (zz_u A s a) B E T (zz_u u s (u s - (a - A s))) q o L bf X' → post X') : wpX_confirm post X (nI s) (nI (a % 8)) := by
  obtain ⟨fw, sh, sc, sb, fn, uw, ex, aq, ow, gh, gc, gb, fi, fs, fr⟩ := X
  obtain ⟨r1, r2, r3, r4, r5, r6, r7, r8, r9, r10, r11, r12, r13, r14, r15⟩ := h
  have hc : (nI s).toNatClampNeg = s := nI_clamp (by omega)
  have hi : vp_in (nI s) 2 := vp_in_nI hs (by decide)
  have r6' : uw s = nI (u s) := r6 s hs
  have r3' : sc s = nI (B s - A s) := r3 s hs
  have r2' : sh s = nI (A s % 32) := r2 s hs
  have r5' : fn s = nI (A s % 8) := r5 s hs
  have en : (nI (a % 8) - nI (A s % 8)) &&& 7 = nI (a - A s) := by
    rw [zx_s8]
    have e : (a % 8 + 8 - A s % 8) % 8 = a - A s := by omega
    rw [e]
  have em : (nI (A s % 32) + nI (a - A s)) &&& 31 = nI (a % 32) := by
    rw [zx_m32 (by omega)]
    have e : A s + (a - A s) = a := by omega
    rw [e]
  have e3 : nI (B s - A s) - nI (a - A s) = nI (B s - a) := by
    rw [pk_sub (by omega)]
    have e : B s - A s - (a - A s) = B s - a := by omega
    rw [e]
  have e4 : nI (u s) - nI (a - A s) = nI (u s - (a - A s)) := pk_sub (by omega)
  unfold wpX_confirm
  simp only [hc, r6', r3', r2', r5', en]
  refine ⟨hi, nm_e ⟨hi, br_t (nI_le (by omega) (by omega)) ⟨hi, hi, nm_e ⟨hi, hi, nm_e ⟨hi, hi, nm_e ⟨hi, nm_e (hp _ ?_)⟩⟩⟩⟩⟩⟩
  rw [em, e3, e4]
  refine ⟨r1, zc_au r2 (by rw [zz_us]) (fun t ht => by rw [zz_un ht]), zc_au r3 (by rw [zz_us]) (fun t ht => by rw [zz_un ht]), ?_, zc_au r5 (by rw [zz_us]) (fun t ht => by rw [zz_un ht]), zc_au r6 (by rw [zz_us]) (fun t ht => by rw [zz_un ht]), r7, r8, r9, r10, r11, r12, r13, r14, r15⟩
  intro t ht j hj1 hj2
  refine r4 t ht j ?_ hj2
  by_cases e : t = s
  · subst e
    rw [zz_us] at hj1
    omega
  · rw [zz_un e] at hj1
    exact hj1
end
section
/-! receiving -/
theorem zx_accept {post : SX → Prop} {W : Nat} {A B E T u : Nat → Nat} {q o : Nat → Bool} {L : Nat → List zm_Fr} {bf : Nat → Nat → Nat} {X : SX} {s : Nat} {x : Int32} (h : zc_R W A B E T u q o L bf X) (hs : s < 2) (hT : T s ≤ E s) (hE : E s < T s + 31) (e0 : x = nI (bf (1 - s) (E s)))
    (hp : ∀ X', zc_R W A B (zz_u E s (E s + 1)) T u (zz_u q s false) (zz_u o s true) L bf X' → post X') : wpX_accept post X (nI s) x := by
  obtain ⟨fw, sh, sc, sb, fn, uw, ex, aq, ow, gh, gc, gb, fi, fs, fr⟩ := X
  obtain ⟨r1, r2, r3, r4, r5, r6, r7, r8, r9, r10, r11, r12, r13, r14, r15⟩ := h
  have hc : (nI s).toNatClampNeg = s := nI_clamp (by omega)
  have hi : vp_in (nI s) 2 := vp_in_nI hs (by decide)
  have r10' : gh s = nI (T s % 32) := r10 s hs
  have r11' : gc s = nI (E s - T s) := r11 s hs
  have r7' : ex s = nI (E s % 8) := r7 s hs
  have em : (nI (T s % 32) + nI (E s - T s)) &&& 31 = nI (E s % 32) := by
    rw [zx_m32 (by omega)]
    have e : T s + (E s - T s) = E s := by omega
    rw [e]
  have ec : (nI (s * 32 + E s % 32)).toNatClampNeg = s * 32 + E s % 32 := nI_clamp (by omega)
  have e1 : nI (E s - T s) + 1 = nI (E s + 1 - T s) := by
    rw [nI_1]
    have e : E s - T s + 1 = E s + 1 - T s := by omega
    rw [e]
  have e8 : (nI (E s % 8) + 1) &&& 7 = nI ((E s + 1) % 8) := zx_m8 (b := 1) (by decide)
  unfold wpX_accept
  simp only [hc, r10', r11', r7', em, zx_32, ec]
  refine ⟨hi, hi, vp_in_nI (by omega) (by decide), nm_e ⟨hi, hi, nm_e ⟨hi, hi, nm_e ⟨hi, nm_e ⟨hi, nm_e (hp _ ?_)⟩⟩⟩⟩⟩
  rw [e1, e8]
  refine ⟨r1, r2, r3, r4, r5, r6, zc_au r7 (by rw [zz_us]) (fun t ht => by rw [zz_un ht]), zc_bu false r8 rfl, zc_bu true r9 rfl, r10, zc_au r11 (by rw [zz_us]) (fun t ht => by rw [zz_un ht]), ?_, r13, r14, r15⟩
  intro t ht j hj1 hj2
  by_cases e : t = s
  · subst e
    rw [zz_us] at hj2
    by_cases e2 : j = E t
    · rw [e2, pk_us, e0]
    · rw [pk_un (by omega)]
      exact r12 t ht j hj1 (by omega)
  · rw [zz_un e] at hj2
    rw [pk_un (by omega)]
    exact r12 t ht j hj1 hj2
theorem zx_receive {post : SX → Prop} {W : Nat} {A B E T u : Nat → Nat} {q o : Nat → Bool} {L : Nat → List zm_Fr} {bf : Nat → Nat → Nat} {X : SX} {s d : Nat} {x y : Int32} (h : zc_R W A B E T u q o L bf X) (hs : s < 2) (hb : ∀ j, bf s j < 512) (hT : T s ≤ E s) (h1 : d ≤ E s + 3) (h2 : E s ≤ d + 4) (h3 : d = E s → E s < T s + 31) (e0 : x = nI (d % 8)) (e1 : y = nI (bf (1 - s) d))
    (hp : ∀ X', zc_R W A B (zz_u E s (zm_rE (E s) 0 d)) T u (zz_u q s (zm_rq (E s) (q s) 0 d)) (zz_u o s (zm_ow (E s) (q s) 0 d)) (zz_u L s ((L s ++ zm_pre (E s) (q s) 0 d).take 16)) bf X' → post X') : wpX_receiveData post X (nI s) x y := by
  obtain ⟨fw, sh, sc, sb, fn, uw, ex, aq, ow, gh, gc, gb, fi, fs, fr⟩ := X
  have h0 := h
  obtain ⟨r1, r2, r3, r4, r5, r6, r7, r8, r9, r10, r11, r12, r13, r14, r15⟩ := h
  subst e0
  have hc : (nI s).toNatClampNeg = s := nI_clamp (by omega)
  have hi : vp_in (nI s) 2 := vp_in_nI hs (by decide)
  have hL := (r15 s hs).1
  have r7' : ex s = nI (E s % 8) := r7 s hs
  have r8' : aq s = if q s = true then 1 else 0 := r8 s hs
  unfold wpX_receiveData
  simp only [hc, r7', zx_s8]
  by_cases hd : d = E s
  · have ev : (d % 8 + 8 - E s % 8) % 8 = 0 := by omega
    have f1 : zm_rE (E s) 0 d = E s + 1 := if_pos ⟨rfl, hd⟩
    have f2 : zm_rq (E s) (q s) 0 d = false := by
      unfold zm_rq
      rw [if_pos rfl, if_pos hd]
    have f3 : zm_ow (E s) (q s) 0 d = true := if_pos ⟨rfl, fun z => by omega⟩
    have f4 : zm_pre (E s) (q s) 0 d = [] := if_neg (fun z => by omega)
    rw [f1, f2, f3, f4, zc_none hL] at hp
    rw [ev]
    refine ⟨hi, nm_e (br_t rfl (zx_accept h0 hs hT (h3 hd) (by rw [e1, hd]) ?_))⟩
    rintro ⟨fw', sh', sc', sb', fn', uw', ex', aq', ow', gh', gc', gb', fi', fs', fr'⟩ h'
    exact hp _ h'
  · by_cases hg : E s < d
    · have ev : (d % 8 + 8 - E s % 8) % 8 = d - E s := by omega
      have f1 : zm_rE (E s) 0 d = E s := if_neg (fun z => hd z.2)
      have f2 : zm_rq (E s) (q s) 0 d = true := by
        unfold zm_rq
        rw [if_pos rfl, if_neg hd, if_pos hg]
      rw [f1, f2, zz_ui rfl] at hp
      rw [ev]
      refine ⟨hi, nm_e (br_f (nI_ne0 (by omega) (by omega)) (br_f (nI_nlt (a := 3) (by omega) (by omega)) ⟨hi, ?_⟩))⟩
      cases hq : q s with
      | false =>
        have f3 : zm_ow (E s) (q s) 0 d = false := if_neg (fun z => z.2 ⟨hg, hq⟩)
        have f4 : zm_pre (E s) (q s) 0 d = [(2, 0, E s)] := if_pos ⟨rfl, hg, hq⟩
        rw [f3, f4] at hp
        rw [hq] at r8'
        refine br_t r8' ⟨hi, nm_e (zx_send (W := W) (A := A) (B := B) (E := E) (T := T) (u := u) (q := zz_u q s true) (o := o) (L := L) (bf := bf) 2 0 ?_ hs (by decide) hb rfl rfl rfl ?_)⟩
        · exact ⟨r1, r2, r3, r4, r5, r6, r7, zc_bu true r8 rfl, r9, r10, r11, r12, r13, r14, r15⟩
        · rintro ⟨fw', sh', sc', sb', fn', uw', ex', aq', ow', gh', gc', gb', fi', fs', fr'⟩ h'
          exact hp _ h'
      | true =>
        have f3 : zm_ow (E s) (q s) 0 d = true := if_pos ⟨rfl, fun z => by rw [hq] at z; exact absurd z.2 (by decide)⟩
        have f4 : zm_pre (E s) (q s) 0 d = [] := if_neg (fun z => by rw [hq] at z; exact absurd z.2.2 (by decide))
        rw [f3, f4, zc_none hL, zz_ui hq.symm] at hp
        rw [hq] at r8'
        refine br_f (by rw [r8']; decide) ⟨hi, nm_e (hp _ ?_)⟩
        exact ⟨r1, r2, r3, r4, r5, r6, r7, r8, zc_bu true r9 rfl, r10, r11, r12, r13, r14, r15⟩
    · have ev : (d % 8 + 8 - E s % 8) % 8 = 8 + d - E s := by omega
      have f1 : zm_rE (E s) 0 d = E s := if_neg (fun z => hd z.2)
      have f2 : zm_rq (E s) (q s) 0 d = q s := by
        unfold zm_rq
        rw [if_pos rfl, if_neg hd, if_neg hg]
      have f3 : zm_ow (E s) (q s) 0 d = true := if_pos ⟨rfl, fun z => hg z.1⟩
      have f4 : zm_pre (E s) (q s) 0 d = [] := if_neg (fun z => hg z.2.1)
      rw [f1, f2, f3, f4, zz_ui rfl, zz_ui rfl, zc_none hL] at hp
      rw [ev]
      refine ⟨hi, nm_e (br_f (nI_ne0 (by omega) (by omega)) (br_t (nI_lt (a := 3) (by omega) (by omega)) ⟨hi, nm_e (hp _ ?_)⟩))⟩
      exact ⟨r1, r2, r3, r4, r5, r6, r7, r8, zc_bu true r9 rfl, r10, r11, r12, r13, r14, r15⟩
theorem zx_tail50 {post : SX → Prop} {W : Nat} {A B E T u : Nat → Nat} {q o : Nat → Bool} {L : Nat → List zm_Fr} {bf : Nat → Nat → Nat} (fw : Int32) (sh sc sb fn uw ex aq ow gh gc gb fi fs fr : Nat → Int32) {s k : Nat} (h : zc_R W A B E T u q o L bf (fw, sh, sc, sb, fn, uw, ex, aq, ow, gh, gc, gb, fi, fs, fr)) (hs : s < 2) (hb : ∀ j, bf s j < 512) (hW : W ≤ 4) (hB : B s < A s + 32) (hk : k ≤ 2) (hu : u s ≤ zm_wn W (B s) (A s))
    (hp : ∀ X', zc_R W A B E T (zz_u u s (zm_wn W (B s) (A s))) q (if zm_wn W (B s) (A s) - (if k = 2 then 0 else u s) = 0 then o else zz_u o s false) (zz_u L s ((L s ++ zm_dt (A s + (if k = 2 then 0 else u s)) (zm_wn W (B s) (A s) - (if k = 2 then 0 else u s)) (E s)).take 16)) bf X' → post X') : wX_arrive_50 post (nI s) (nI k) fw sh sc sb fn uw ex aq ow gh gc gb fi fs fr := by
  unfold wX_arrive_50
  by_cases hk2 : k = 2
  · subst hk2
    rw [if_pos rfl, Nat.sub_zero, Nat.add_zero] at hp
    refine br_t rfl (zx_back h hs hb hW hB ?_)
    rintro ⟨fw', sh', sc', sb', fn', uw', ex', aq', ow', gh', gc', gb', fi', fs', fr'⟩ h'
    exact hp _ h'
  · rw [if_neg hk2] at hp
    refine br_f (fun z => hk2 ((nI_eq (b := 2) (by omega) (by decide)).mp z)) (zx_more (zm_wn W (B s) (A s) - u s) h hs hb hW hB (by omega) ?_)
    rintro ⟨fw', sh', sc', sb', fn', uw', ex', aq', ow', gh', gc', gb', fi', fs', fr'⟩ h'
    have e : u s + (zm_wn W (B s) (A s) - u s) = zm_wn W (B s) (A s) := by omega
    rw [e] at h'
    exact hp _ h'
theorem zx_arrive {post : SX → Prop} {W : Nat} {A B E T u : Nat → Nat} {q o : Nat → Bool} {L : Nat → List zm_Fr} {bf : Nat → Nat → Nat} {X : SX} {s k d a : Nat} (h : zc_R W A B E T u q o L bf X) (hs : s < 2) (ho : o s = false) (hu : u s = zm_wn W (B s) (A s)) (hW : W ≤ 4) (hk : k ≤ 2) (hb : ∀ t j, bf t j < 512) (h1 : A s ≤ a) (h2 : a ≤ A s + u s) (hB : B s < A s + 32) (h3 : k = 0 → d ≤ E s + 3 ∧ E s ≤ d + 4) (h4 : T s ≤ E s) (h5 : k = 0 → d = E s → E s < T s + 31)
    (hp : ∀ X', zc_R W (zz_u A s a) B (zz_u E s (zm_rE (E s) k d)) T (zz_u u s (zm_wn W (B s) a)) (zz_u q s (zm_rq (E s) (q s) k d)) (zz_u o s (if zm_m W (B s) (A s) k a = 0 then zm_ow (E s) (q s) k d else false)) (zz_u L s ((L s ++ (zm_pre (E s) (q s) k d ++ zm_dt (a + zm_lo W (B s) (A s) k a) (zm_m W (B s) (A s) k a) (zm_rE (E s) k d))).take 16)) bf X' → post X') : wpX_arrive post X (nI s) (zk_enc (bf (1 - s)) (k, d, a)) := by
  obtain ⟨fw, sh, sc, sb, fn, uw, ex, aq, ow, gh, gc, gb, fi, fs, fr⟩ := X
  have hL : (L s).length ≤ 16 := (h.2.2.2.2.2.2.2.2.2.2.2.2.2.2 s hs).1
  obtain ⟨c1, c2, c3, c4⟩ := zk_encAt (hb (1 - s)) hk d a
  have hx : max (A s) a = a := Nat.max_eq_right h1
  have hu2 := hu
  unfold zm_wn at hu2
  have elo : (if k = 2 then 0 else u s - (a - A s)) = zm_lo W (B s) (A s) k a := by
    unfold zm_lo
    rw [hx, hu]
  have em : zm_wn W (B s) a - zm_lo W (B s) (A s) k a = zm_m W (B s) (A s) k a := by
    unfold zm_m
    rw [hx]
  have tl : ∀ (fw : Int32) (sh sc sb fn uw ex aq ow gh gc gb fi fs fr : Nat → Int32), zc_R W (zz_u A s a) B (zz_u E s (zm_rE (E s) k d)) T (zz_u u s (u s - (a - A s))) (zz_u q s (zm_rq (E s) (q s) k d)) (zz_u o s (zm_ow (E s) (q s) k d)) (zz_u L s ((L s ++ zm_pre (E s) (q s) k d).take 16)) bf (fw, sh, sc, sb, fn, uw, ex, aq, ow, gh, gc, gb, fi, fs, fr) → wX_arrive_50 post (nI s) (nI k) fw sh sc sb fn uw ex aq ow gh gc gb fi fs fr := by
    intro fw sh sc sb fn uw ex aq ow gh gc gb fi fs fr h'
    refine zx_tail50 fw sh sc sb fn uw ex aq ow gh gc gb fi fs fr h' hs (hb s) hW (by rw [zz_us]; omega) hk ?_ ?_
    · rw [zz_us, zz_us]
      unfold zm_wn
      omega
    · intro X' h''
      rw [zz_uu, zz_uu, zz_uu, zz_us, zz_us, zz_us, zz_us, elo, em, zm_tk, List.append_assoc] at h''
      refine hp X' ?_
      by_cases z : zm_m W (B s) (A s) k a = 0
      · rw [if_pos z] at h'' ⊢
        exact h''
      · rw [if_neg z] at h'' ⊢
        exact h''
  unfold wpX_arrive
  refine zk_sound (zk_encSound (hb (1 - s)) hk d a) (br_f (by decide) (nm_r c1 ?_))
  rw [c3]
  refine zx_confirm h hs h1 h2 (by omega) hB (by omega) ?_
  rintro ⟨fw', sh', sc', sb', fn', uw', ex', aq', ow', gh', gc', gb', fi', fs', fr'⟩ h'
  refine pk_eq k 0 (fun k0 => ?_) (fun k0 => ?_)
  · subst k0
    rw [c2, c4]
    obtain ⟨g1, g2⟩ := h3 rfl
    refine zx_receive h' hs (hb s) h4 g1 g2 (h5 rfl) rfl rfl ?_
    rintro ⟨fw, sh, sc, sb, fn, uw, ex, aq, ow, gh, gc, gb, fi, fs, fr⟩ h''
    exact tl _ _ _ _ _ _ _ _ _ _ _ _ _ _ _ h''
  · refine tl _ _ _ _ _ _ _ _ _ _ _ _ _ _ _ ?_
    have f3 : zm_ow (E s) (q s) k d = o s := by
      rw [ho]
      exact if_neg (fun z => k0 z.1)
    have f2 : zm_rq (E s) (q s) k d = q s := if_neg k0
    have f4 : zm_pre (E s) (q s) k d = [] := if_neg (fun z => k0 z.1)
    rw [zz_ui (zm_rE_ne k0), zz_ui f2, zz_ui f3, f4, zc_none hL]
    exact h'
theorem zx_arrive_bad {post : SX → Prop} {X : SX} {x F : Int32} (hc : ¬ zk_ck F = ((F >>> ((17 : Int32) &&& 31)) &&& 255)) (hp : post X) : wpX_arrive post X x F := by
  obtain ⟨fw, sh, sc, sb, fn, uw, ex, aq, ow, gh, gc, gb, fi, fs, fr⟩ := X
  unfold wpX_arrive
  exact zk_unsound hc (br_t rfl hp)
theorem zx_pay {post : SX → Prop} {W : Nat} {A B E T u : Nat → Nat} {q o : Nat → Bool} {L : Nat → List zm_Fr} {bf : Nat → Nat → Nat} {X : SX} {s : Nat} (h : zc_R W A B E T u q o L bf X) (hs : s < 2) (hb : ∀ j, bf s j < 512)
    (hp : ∀ X', zc_R W A B E T u q (zz_u o s false) (zz_u L s ((L s ++ (if o s = true then [(1, 0, E s)] else [])).take 16)) bf X' → post X') : wpX_payDebt post X (nI s) := by
  obtain ⟨fw, sh, sc, sb, fn, uw, ex, aq, ow, gh, gc, gb, fi, fs, fr⟩ := X
  have h0 := h
  obtain ⟨r1, r2, r3, r4, r5, r6, r7, r8, r9, r10, r11, r12, r13, r14, r15⟩ := h
  have hc : (nI s).toNatClampNeg = s := nI_clamp (by omega)
  have hi : vp_in (nI s) 2 := vp_in_nI hs (by decide)
  have hL := (r15 s hs).1
  have r9' : ow s = if o s = true then 1 else 0 := r9 s hs
  unfold wpX_payDebt
  simp only [hc]
  refine ⟨hi, ?_⟩
  cases ho : o s with
  | false =>
    rw [ho] at r9'
    rw [zz_ui ho.symm, if_neg (by rw [ho]; decide), zc_none hL] at hp
    exact br_t r9' (hp _ h0)
  | true =>
    rw [ho] at r9'
    rw [if_pos ho] at hp
    refine br_f (by rw [r9']; decide) (zx_send 1 0 h0 hs (by decide) hb rfl rfl rfl ?_)
    rintro ⟨fw', sh', sc', sb', fn', uw', ex', aq', ow', gh', gc', gb', fi', fs', fr'⟩ h'
    exact hp _ h'
/-! taking a frame off a line -/
def zx_sh (s i : Nat) (a : Nat → Int32) : Nat → Int32 := fun j => if s * 16 ≤ j ∧ j < s * 16 + i then a (j + 1) else a j
theorem zx_sh_s (s i : Nat) (a : Nat → Int32) : upd (zx_sh s i a) (s * 16 + i) (zx_sh s i a (s * 16 + i + 1)) = zx_sh s (i + 1) a := by
  funext j
  unfold upd zx_sh
  by_cases h : j = s * 16 + i
  · rw [if_pos h, if_neg (by omega), if_pos (by omega), h]
  · rw [if_neg h]
    by_cases h2 : s * 16 ≤ j ∧ j < s * 16 + i
    · rw [if_pos h2, if_pos (by omega)]
    · rw [if_neg h2, if_neg (by omega)]
theorem zx_take0 {post : Int32 → SX → Prop} (fw : Int32) (sh sc sb fn uw ex aq ow gh gc gb fi fs fr : Nat → Int32) {s c : Nat} {x : Int32} (hs : s < 2) (hc16 : c < 16) (hf : fs s = nI c) (hp : post x (fw, sh, sc, sb, fn, uw, ex, aq, ow, gh, gc, gb, fi, fs, zx_sh s c fr)) : ∀ (m n i : Nat), i + m = c → m < n → wX_takeFrame_22 post (nI s) x fw n (nI i) sh sc sb fn uw ex aq ow gh gc gb fi fs (zx_sh s i fr) := by
  have hc : (nI s).toNatClampNeg = s := nI_clamp (by omega)
  have hi : vp_in (nI s) 2 := vp_in_nI hs (by decide)
  intro m
  induction m with
  | zero =>
    intro n i e hn
    obtain ⟨n, rfl⟩ : ∃ k, n = k + 1 := ⟨n - 1, by omega⟩
    obtain rfl : i = c := by omega
    unfold wX_takeFrame_22
    simp only [hc, hf]
    exact ⟨hi, br_t (nI_le (Nat.le_refl _) (by omega)) hp⟩
  | succ m ih =>
    intro n i e hn
    obtain ⟨n, rfl⟩ : ∃ k, n = k + 1 := ⟨n - 1, by omega⟩
    have e1 : (nI (s * 16 + i)).toNatClampNeg = s * 16 + i := nI_clamp (by omega)
    have e2 : (nI (s * 16 + i + 1)).toNatClampNeg = s * 16 + i + 1 := nI_clamp (by omega)
    unfold wX_takeFrame_22
    simp only [hc, hf, zx_16, nI_1, e1, e2]
    refine ⟨hi, br_f (nI_ge (by omega) (by omega)) ⟨vp_in_nI (by omega) (by decide), vp_in_nI (by omega) (by decide), nm_r (zx_sh_s s i fr) (nm_e ?_)⟩⟩
    exact ih n (i + 1) (by omega) (by omega)
theorem zx_takeFrame {post : Int32 → SX → Prop} {W : Nat} {A B E T u : Nat → Nat} {q o : Nat → Bool} {L : Nat → List zm_Fr} {bf : Nat → Nat → Nat} (fw : Int32) (sh sc sb fn uw ex aq ow gh gc gb fi fs fr : Nat → Int32) {fr' : Nat → Int32} {s : Nat} {f : zm_Fr} {l : List zm_Fr} (h : zc_R W A B E T u q o L bf (fw, sh, sc, sb, fn, uw, ex, aq, ow, gh, gc, gb, fi, fs, fr)) (hs : s < 2) (hL : L s = f :: l) (hf : ∀ j, j ≠ s * 16 → fr' j = fr j)
    (hp : ∀ X', zc_R W A B E T u q o (zz_u L s l) bf X' → post (fr' (s * 16)) X') : wpX_takeFrame post (fw, sh, sc, sb, fn, uw, ex, aq, ow, gh, gc, gb, fi, fs, fr') (nI s) := by
  obtain ⟨r1, r2, r3, r4, r5, r6, r7, r8, r9, r10, r11, r12, r13, r14, r15⟩ := h
  have hc : (nI s).toNatClampNeg = s := nI_clamp (by omega)
  have hi : vp_in (nI s) 2 := vp_in_nI hs (by decide)
  have r14' : fs s = nI (l.length + 1) := by
    have z : fs s = nI (L s).length := r14 s hs
    rw [z, hL]
    rfl
  have hlen : l.length + 1 ≤ 16 := by
    have := (r15 s hs).1
    rw [hL] at this
    exact this
  have e16 : nI s * 16 = nI (s * 16) := by rw [show (16 : Int32) = nI 16 from rfl, pk_mul]
  have ec : (nI (s * 16)).toNatClampNeg = s * 16 := nI_clamp (by omega)
  have z0 : zx_sh s 0 fr' = fr' := by
    funext j
    exact if_neg (by omega)
  unfold wpX_takeFrame
  simp only [hc, r14', nI_pred, e16, ec]
  refine ⟨vp_in_nI (by omega) (by decide), nm_e ⟨hi, hi, nm_e ⟨l.length + 1, ?_⟩⟩⟩
  have key := zx_take0 (post := post) fw sh sc sb fn uw ex aq ow gh gc gb fi (upd fs s (nI l.length)) fr' (s := s) (c := l.length) (x := fr' (s * 16)) hs (by omega) pk_us (hp _ ?_) l.length (l.length + 1) 0 (by omega) (by omega)
  · rw [z0] at key
    exact key
  · refine ⟨r1, r2, r3, r4, r5, r6, r7, r8, r9, r10, r11, r12, r13, zc_au r14 (by rw [zz_us]) (fun t ht => by rw [zz_un ht]), ?_⟩
    intro t ht
    obtain ⟨h1, h2⟩ := r15 t ht
    by_cases e : t = s
    · subst e
      rw [zz_us]
      refine ⟨by omega, fun i g hg => ?_⟩
      have hil : i < l.length := by
        rcases Nat.lt_or_ge i l.length with z | z
        · exact z
        · rw [List.getElem?_eq_none z] at hg
          exact absurd hg (by simp)
      have e1 : zx_sh t l.length fr' (t * 16 + i) = fr' (t * 16 + i + 1) := if_pos (by omega)
      rw [e1, hf _ (by omega)]
      exact h2 (i + 1) g (by rw [hL]; exact hg)
    · rw [zz_un e]
      refine ⟨h1, fun i g hg => ?_⟩
      have hil : i < (L t).length := by
        rcases Nat.lt_or_ge i (L t).length with z | z
        · exact z
        · rw [List.getElem?_eq_none z] at hg
          exact absurd hg (by simp)
      have e1 : zx_sh s l.length fr' (t * 16 + i) = fr' (t * 16 + i) := if_neg (by omega)
      rw [e1, hf _ (by omega)]
      exact h2 i g hg
end
section
/-! at the borders of calls: underWay is the whole window, nothing is owed -/
def zb_B (W : Nat) (B T : Nat → Nat) (bf : Nat → Nat → Nat) (g : zg_S) (X : SX) : Prop := zc_R W g.1 B g.2.1 T (fun s => zm_wn W (B s) (g.1 s)) g.2.2.1 (fun _ => false) g.2.2.2 bf X
theorem zb_f (s : Nat) : zz_u (fun _ : Nat => false) s false = fun _ => false := zz_ui rfl
theorem zb_wn {W : Nat} {B A : Nat → Nat} {r a : Nat} : (fun t => zm_wn W (B t) (zz_u A r a t)) = zz_u (fun t => zm_wn W (B t) (A t)) r (zm_wn W (B r) a) := by
  funext t
  by_cases e : t = r
  · rw [e, zz_us, zz_us]
  · rw [zz_un e, zz_un e]
theorem zb_1s {s : Nat} (hs : s < 2) : (1 : Int32) - nI s = nI (1 - s) := by
  show nI 1 - nI s = _
  exact pk_sub (by omega)
theorem zb_fl {post : SX → Prop} {W : Nat} {B T : Nat → Nat} {bf : Nat → Nat → Nat} {g : zg_S} {X : SX} {s : Nat} (hs : s < 2) (hb : ∀ t j, bf t j < 512) (I : zg_I W B T g) (h : zb_B W B T bf g X) (hp : ∀ X', zb_B W B T bf (zg_fl W B s g) X' → post X') : wpX_goBack post X (nI s) := by
  have Is := I.2.2 s hs
  refine zx_back h hs (hb s) I.2.1 (by have := Is.1; have := Is.2.2.2.1; omega) ?_
  intro X' h'
  refine hp X' ?_
  have e1 : zz_u (fun s => zm_wn W (B s) (g.1 s)) s (zm_wn W (B s) (g.1 s)) = fun s => zm_wn W (B s) (g.1 s) := zz_ui rfl
  rw [e1, zb_f, ite_self] at h'
  exact h'
/-- what an arriving frame must be -/
def zb_C (W : Nat) (B T A E : Nat → Nat) (r : Nat) (f : zm_Fr) : Prop := W ≤ 4 ∧ f.1 ≤ 2 ∧ A r ≤ f.2.2 ∧ f.2.2 ≤ A r + zm_wn W (B r) (A r) ∧ (f.1 = 0 → f.2.1 ≤ E r + 3 ∧ E r ≤ f.2.1 + 4) ∧ T r ≤ E r ∧ (f.1 = 0 → f.2.1 = E r → E r < T r + 31) ∧ B r < A r + 32
theorem zb_C_of {W : Nat} {B T : Nat → Nat} {g : zg_S} {s : Nat} {f : zm_Fr} (hs : s < 2) (I : zg_I W B T g) (hf : f ∈ g.2.2.2 s) : zb_C W B T g.1 g.2.1 (1 - s) f := by
  obtain ⟨w1, w2, I⟩ := I
  obtain ⟨z1, z2, z3⟩ := zp_2 hs
  have Is := I s hs
  have Ir := I (1 - s) z1
  rw [z2] at Ir
  obtain ⟨a1, a2, a3, a4, a5, a6, a7⟩ := Is
  obtain ⟨b1, b2, b3, b4, b5, b6, b7⟩ := Ir
  obtain ⟨c1, c2, c3, c4⟩ := a6 f hf
  unfold zb_C zm_wn
  refine ⟨w2, c1, c2, by omega, fun h0 => ?_, by omega, fun h0 he => ?_, by omega⟩
  · have := c4 h0
    omega
  · have := c4 h0
    omega
theorem zb_pay (ow : Bool) (m e : Nat) : (if (if m = 0 then ow else false) = true then [((1, 0, e) : zm_Fr)] else []) = zm_pay ow m e := by
  unfold zm_pay
  by_cases h : m = 0
  · cases ow <;> simp [h]
  · simp [h]
theorem zb_arr {P : SX → Prop} {W : Nat} {B T : Nat → Nat} {bf : Nat → Nat → Nat} {g : zg_S} {X : SX} {s : Nat} {f : zm_Fr} (hs : s < 2) (hb : ∀ t j, bf t j < 512) (C : zb_C W B T g.1 g.2.1 (1 - s) f) (h : zb_B W B T bf g X)
    (hp : ∀ X', (∀ post : SX → Prop, (∀ X'', zb_B W B T bf (zg_ar W B s f g) X'' → post X'') → wpX_payDebt post X' (nI (1 - s))) → P X') : wpX_arrive P X (nI (1 - s)) (zk_enc (bf s) f) := by
  obtain ⟨k, d, a⟩ := f
  obtain ⟨A, E, q, L⟩ := g
  obtain ⟨z1, z2, z3⟩ := zp_2 hs
  obtain ⟨c0, c1, c2, c3, c4, c5, c6, c7⟩ := C
  have e : zk_enc (bf s) (k, d, a) = zk_enc (bf (1 - (1 - s))) (k, d, a) := by rw [z2]
  rw [e]
  dsimp only at c1 c2 c3 c4 c5 c6 c7
  refine zx_arrive h z1 rfl rfl c0 c1 hb c2 c3 c7 c4 c5 c6 ?_
  intro X' h'
  refine hp X' (fun post hq => zx_pay h' z1 (hb _) ?_)
  intro X'' h''
  refine hq X'' ?_
  unfold zb_B zg_ar
  dsimp only at h'' ⊢
  rw [zz_uu, zz_uu, zz_us, zz_us, zz_us, zm_tk, zb_f, zb_pay, List.append_assoc, List.append_assoc] at h''
  rw [zb_wn, Nat.max_eq_right c2]
  unfold zm_out
  rw [Nat.max_eq_right c2]
  exact h''
theorem zb_pay0 {post : SX → Prop} {W : Nat} {B T : Nat → Nat} {bf : Nat → Nat → Nat} {g : zg_S} {X : SX} {s : Nat} (hs : s < 2) (hb : ∀ t j, bf t j < 512) (h : zb_B W B T bf g X) (hl : (g.2.2.2 s).length ≤ 16) (hp : post X) : wpX_payDebt post X (nI s) := by
  obtain ⟨fw, sh, sc, sb, fn, uw, ex, aq, ow, gh, gc, gb, fi, fs, fr⟩ := X
  obtain ⟨r1, r2, r3, r4, r5, r6, r7, r8, r9, r10, r11, r12, r13, r14, r15⟩ := h
  have hc : (nI s).toNatClampNeg = s := nI_clamp (by omega)
  have hi : vp_in (nI s) 2 := vp_in_nI hs (by decide)
  unfold wpX_payDebt
  simp only [hc]
  exact ⟨hi, br_t (r9 s hs) hp⟩
theorem zb_comm {W : Nat} {B : Nat → Nat} {s : Nat} {f : zm_Fr} {l : List zm_Fr} {g : zg_S} (hs : s < 2) : zg_ar W B s f (zg_dr s l g) = zg_dr s l (zg_ar W B s f g) := by
  obtain ⟨A, E, q, L⟩ := g
  obtain ⟨z1, z2, z3⟩ := zp_2 hs
  unfold zg_ar zg_dr
  dsimp only
  rw [zz_un z3]
  refine Prod.ext rfl (Prod.ext rfl (Prod.ext rfl ?_))
  dsimp only
  funext t
  by_cases h1 : t = 1 - s
  · rw [h1, zz_us, zz_un z3, zz_us]
  · rw [zz_un h1]
    by_cases h2 : t = s
    · rw [h2, zz_us, zz_us]
    · rw [zz_un h2, zz_un h2, zz_un h1]
theorem zb_carry {post : SX → Prop} {W : Nat} {B T : Nat → Nat} {bf : Nat → Nat → Nat} {g : zg_S} {X : SX} {s : Nat} {f : zm_Fr} {l : List zm_Fr} (hs : s < 2) (hb : ∀ t j, bf t j < 512) (I : zg_I W B T g) (hL : g.2.2.2 s = f :: l) (h : zb_B W B T bf g X)
    (hp : ∀ X', zb_B W B T bf (zg_dr s l (zg_ar W B s f g)) X' → post X') : wpX_carryOne post X (nI s) := by
  obtain ⟨fw, sh, sc, sb, fn, uw, ex, aq, ow, gh, gc, gb, fi, fs, fr⟩ := X
  have e0 : fr (s * 16) = zk_enc (bf s) f := (h.2.2.2.2.2.2.2.2.2.2.2.2.2.2 s hs).2 0 f (by rw [hL]; rfl)
  have C := zb_C_of (f := f) hs I (by rw [hL]; exact List.mem_cons_self)
  unfold wpX_carryOne
  dsimp only
  rw [zb_1s hs]
  refine zx_takeFrame fw sh sc sb fn uw ex aq ow gh gc gb fi fs fr h hs hL (fun j _ => rfl) ?_
  rintro ⟨fw', sh', sc', sb', fn', uw', ex', aq', ow', gh', gc', gb', fi', fs', fr'⟩ h'
  dsimp only
  rw [e0]
  refine zb_arr (g := zg_dr s l g) hs hb C h' ?_
  rintro ⟨fw, sh, sc, sb, fn, uw, ex, aq, ow, gh, gc, gb, fi, fs, fr⟩ hK
  refine hK _ ?_
  rintro ⟨fw', sh', sc', sb', fn', uw', ex', aq', ow', gh', gc', gb', fi', fs', fr'⟩ h''
  rw [zb_comm hs] at h''
  exact hp _ h''
theorem zb_carryBad {post : SX → Prop} {W : Nat} {B T : Nat → Nat} {bf : Nat → Nat → Nat} {g : zg_S} (fw : Int32) (sh sc sb fn uw ex aq ow gh gc gb fi fs fr : Nat → Int32) {s : Nat} {f : zm_Fr} {l : List zm_Fr} {F : Int32} (hs : s < 2) (hb : ∀ t j, bf t j < 512) (I : zg_I W B T g) (hL : g.2.2.2 s = f :: l) (h : zb_B W B T bf g (fw, sh, sc, sb, fn, uw, ex, aq, ow, gh, gc, gb, fi, fs, fr)) (hF : ¬ zk_ck F = ((F >>> ((17 : Int32) &&& 31)) &&& 255))
    (hp : ∀ X', zb_B W B T bf (zg_dr s l g) X' → post X') : wpX_carryOne post (fw, sh, sc, sb, fn, uw, ex, aq, ow, gh, gc, gb, fi, fs, upd fr (s * 16) F) (nI s) := by
  obtain ⟨z1, z2, z3⟩ := zp_2 hs
  have I2 := zg_I_dr I hs hL
  unfold wpX_carryOne
  dsimp only
  rw [zb_1s hs]
  refine zx_takeFrame fw sh sc sb fn uw ex aq ow gh gc gb fi fs fr h hs hL (fun j hj => pk_un hj) ?_
  rintro ⟨fw', sh', sc', sb', fn', uw', ex', aq', ow', gh', gc', gb', fi', fs', fr'⟩ h'
  dsimp only
  rw [pk_us]
  refine zx_arrive_bad hF ?_
  refine zb_pay0 (g := zg_dr s l g) z1 hb h' (I2.2.2 (1 - s) z1).2.2.2.2.1 ?_
  exact hp _ h'
theorem zb_empty0 {post : SX → Prop} {W : Nat} {B T : Nat → Nat} {bf : Nat → Nat → Nat} {s : Nat} (hs : s < 2) (hb : ∀ t j, bf t j < 512) : ∀ (l : List zm_Fr) (g : zg_S) (n i : Nat) (fw : Int32) (sh sc sb fn uw ex aq ow gh gc gb fi fs fr : Nat → Int32), zb_B W B T bf g (fw, sh, sc, sb, fn, uw, ex, aq, ow, gh, gc, gb, fi, fs, fr) → zg_I W B T g → g.2.2.2 s = l → l.length + i ≤ 16 → l.length < n →
    (∀ X', zb_B W B T bf (zg_em W B s g) X' → post X') → wX_emptyLine_2 post (nI s) n (nI i) fw sh sc sb fn uw ex aq ow gh gc gb fi fs fr := by
  have hc : (nI s).toNatClampNeg = s := nI_clamp (by omega)
  have hi : vp_in (nI s) 2 := vp_in_nI hs (by decide)
  intro l
  induction l with
  | nil =>
    intro g n i fw sh sc sb fn uw ex aq ow gh gc gb fi fs fr h I hL hl hn hp
    obtain ⟨n, rfl⟩ : ∃ k, n = k + 1 := ⟨n - 1, by omega⟩
    rw [zg_em_nil hs hL (I.2.2 (1 - s) (zp_2 hs).1).2.2.2.2.1] at hp
    have r14' : fs s = nI (g.2.2.2 s).length := h.2.2.2.2.2.2.2.2.2.2.2.2.2.1 s hs
    rw [hL] at r14'
    have r14'' : fs s ≤ 0 := by rw [r14']; decide
    unfold wX_emptyLine_2
    simp only [hc]
    exact br_c (fun _ => hp _ h) (fun _ => ⟨hi, br_t r14'' (hp _ h)⟩)
  | cons f l ih =>
    intro g n i fw sh sc sb fn uw ex aq ow gh gc gb fi fs fr h I hL hl hn hp
    obtain ⟨n, rfl⟩ : ∃ k, n = k + 1 := ⟨n - 1, by omega⟩
    have r14' : fs s = nI (g.2.2.2 s).length := h.2.2.2.2.2.2.2.2.2.2.2.2.2.1 s hs
    rw [hL] at r14'
    rw [List.length_cons] at r14' hl hn
    have r14'' : ¬ fs s ≤ 0 := by rw [r14']; exact nI_nle (by omega) (by omega)
    rw [zg_em_cons hs hL] at hp
    unfold wX_emptyLine_2
    simp only [hc]
    refine br_f (nI_ge (b := 16) (by omega) (by omega)) ⟨hi, br_f r14'' (zb_carry hs hb I hL h ?_)⟩
    rintro ⟨fw', sh', sc', sb', fn', uw', ex', aq', ow', gh', gc', gb', fi', fs', fr'⟩ h'
    refine nm_r (nI_1 i) (ih _ n (i + 1) _ _ _ _ _ _ _ _ _ _ _ _ _ _ _ h' (zg_I_dr (zg_I_ar I hs hL) hs ((zg_ar_L hs).trans hL)) zz_us (by omega) (by omega) hp)
theorem zb_empty {post : SX → Prop} {W : Nat} {B T : Nat → Nat} {bf : Nat → Nat → Nat} {g : zg_S} {X : SX} {s : Nat} (hs : s < 2) (hb : ∀ t j, bf t j < 512) (I : zg_I W B T g) (h : zb_B W B T bf g X) (hp : ∀ X', zb_B W B T bf (zg_em W B s g) X' → post X') : wpX_emptyLine post X (nI s) := by
  obtain ⟨fw, sh, sc, sb, fn, uw, ex, aq, ow, gh, gc, gb, fi, fs, fr⟩ := X
  have hl := (I.2.2 s hs).2.2.2.2.1
  exact ⟨(g.2.2.2 s).length + 1, zb_empty0 hs hb (g.2.2.2 s) g _ 0 _ _ _ _ _ _ _ _ _ _ _ _ _ _ _ h I rfl (by omega) (by omega) hp⟩
theorem zb_mu {W : Nat} {B T : Nat → Nat} {g : zg_S} (I : zg_I W B T g) : zg_mu B g ≤ 60 := by
  have J0 := I.2.2 0 (by decide)
  have J1 := I.2.2 1 (by decide)
  have c1 := J0.1
  have c2 := J0.2.2.2.1
  have c3 := J1.1
  have c4 := J1.2.2.2.1
  unfold zg_mu
  omega
theorem zb_busy {post : Int32 → Prop} {W : Nat} {B T : Nat → Nat} {bf : Nat → Nat → Nat} {g : zg_S} {X : SX} (I : zg_I W B T g) (h : zb_B W B T bf g X) (h0 : zg_mu B g = 0 → post 0) (h1 : zg_mu B g ≠ 0 → post 1) : wpX_busy post X := by
  obtain ⟨fw, sh, sc, sb, fn, uw, ex, aq, ow, gh, gc, gb, fi, fs, fr⟩ := X
  obtain ⟨r1, r2, r3, r4, r5, r6, r7, r8, r9, r10, r11, r12, r13, r14, r15⟩ := h
  have hm := zb_mu I
  have e0 : sc 0 = nI (B 0 - g.1 0) := r3 0 (by decide)
  have e1 : sc 1 = nI (B 1 - g.1 1) := r3 1 (by decide)
  have e : sc 0 + sc 1 = nI (zg_mu B g) := by rw [e0, e1, nI_add]; rfl
  unfold wpX_busy
  simp only [e]
  exact pk_le (zg_mu B g) 0 (fun z => h0 (by omega)) (fun z => h1 (by omega))
theorem zb_settle0 {post : SX → Prop} {W : Nat} {B T : Nat → Nat} {bf : Nat → Nat → Nat} (hb : ∀ t j, bf t j < 512) (hp : ∀ g' X', zb_B W B T bf g' X' → zg_I W B T g' → zg_mu B g' = 0 → post X') : ∀ (m : Nat) (g : zg_S) (n i : Nat) (fw : Int32) (sh sc sb fn uw ex aq ow gh gc gb fi fs fr : Nat → Int32), zb_B W B T bf g (fw, sh, sc, sb, fn, uw, ex, aq, ow, gh, gc, gb, fi, fs, fr) → zg_I W B T g → i + m ≤ 200 → m < n → zg_mu B (zg_it W B m g) = 0 → wX_settle_2 post n (nI i) fw sh sc sb fn uw ex aq ow gh gc gb fi fs fr := by
  intro m
  induction m with
  | zero =>
    intro g n i fw sh sc sb fn uw ex aq ow gh gc gb fi fs fr h I hi hn hm
    obtain ⟨n, rfl⟩ : ∃ k, n = k + 1 := ⟨n - 1, by omega⟩
    unfold wX_settle_2
    exact br_c (fun _ => hp _ _ h I hm) (fun _ => zb_busy I h (fun _ => br_t rfl (hp _ _ h I hm)) (fun z => absurd hm z))
  | succ m ih =>
    intro g n i fw sh sc sb fn uw ex aq ow gh gc gb fi fs fr h I hi hn hm
    obtain ⟨n, rfl⟩ : ∃ k, n = k + 1 := ⟨n - 1, by omega⟩
    unfold wX_settle_2
    refine br_f (nI_ge (b := 200) (by omega) (by decide)) (zb_busy I h (fun z => br_t rfl (hp _ _ h I z)) (fun z => br_f (by decide) ?_))
    have I1 := zg_I_fl (s := 0) I (by decide)
    have I2 := zg_I_em (s := 0) (by decide) _ _ I1 rfl
    have I3 := zg_I_fl (s := 1) I2 (by decide)
    have I4 := zg_I_em (s := 1) (by decide) _ _ I3 rfl
    refine zb_fl (s := 0) (by decide) hb I h ?_
    rintro ⟨fw', sh', sc', sb', fn', uw', ex', aq', ow', gh', gc', gb', fi', fs', fr'⟩ h1
    refine zb_empty (s := 0) (by decide) hb I1 h1 ?_
    rintro ⟨fw, sh, sc, sb, fn, uw, ex, aq, ow, gh, gc, gb, fi, fs, fr⟩ h2
    refine zb_fl (s := 1) (by decide) hb I2 h2 ?_
    rintro ⟨fw', sh', sc', sb', fn', uw', ex', aq', ow', gh', gc', gb', fi', fs', fr'⟩ h3
    refine zb_empty (s := 1) (by decide) hb I3 h3 ?_
    rintro ⟨fw, sh, sc, sb, fn, uw, ex, aq, ow, gh, gc, gb, fi, fs, fr⟩ h4
    exact nm_r (nI_1 i) (ih _ n (i + 1) _ _ _ _ _ _ _ _ _ _ _ _ _ _ _ h4 I4 (by omega) (by omega) hm)
theorem zb_settle {post : SX → Prop} {W : Nat} {B T : Nat → Nat} {bf : Nat → Nat → Nat} {g : zg_S} {X : SX} (hb : ∀ t j, bf t j < 512) (I : zg_I W B T g) (h : zb_B W B T bf g X) (hp : ∀ g' X', zb_B W B T bf g' X' → zg_I W B T g' → zg_mu B g' = 0 → post X') : wpX_settle post X := by
  obtain ⟨fw, sh, sc, sb, fn, uw, ex, aq, ow, gh, gc, gb, fi, fs, fr⟩ := X
  obtain ⟨m, h1, h2⟩ := zg_done I
  exact ⟨m + 1, zb_settle0 hb hp m g (m + 1) 0 _ _ _ _ _ _ _ _ _ _ _ _ _ _ _ h I (by omega) (by omega) h2⟩
end
section
/-! the reference's state, and what both sides do after the line has settled -/
def zr_Y (B T : Nat → Nat) (bf : Nat → Nat → Nat) (v : SY) : Prop := match v with
  | (yb, ym, yc, yg) => zc_a yc (fun r => B (1 - r) - T r) ∧ zc_a yg T ∧ ∀ r, r < 2 → ∀ i, T r + i < B (1 - r) → yb (r * 30 + i) = nI (bf (1 - r) (T r + i) % 256) ∧ ym (r * 30 + i) = nI (bf (1 - r) (T r + i) / 256)
theorem zr_st (x : Int32) : (∃ s, s < 2 ∧ x = nI s) ∨ ((∀ P : Int32 → Prop, P 1 → wpX_bad P x) ∧ (∀ (P : Int32 → Prop) (v : SY), P 1 → wpY_bad P v x)) := by
  rcases pk_ix x (n := 2) (by decide) with h | h | h
  · exact Or.inr ⟨fun P hP => br_t h hP, fun P v hP => br_t h hP⟩
  · have h1 : ¬ x < 0 := fun z => by
      have := Int32.lt_of_le_of_lt h z
      exact absurd this (by decide)
    have h2 : ¬ x ≤ 1 := fun z => by
      have := Int32.le_trans h z
      exact absurd this (by decide)
    exact Or.inr ⟨fun P hP => br_f h1 (br_f h2 hP), fun P v hP => br_f h1 (br_f h2 hP)⟩
  · exact Or.inl h
theorem zr_okX {s : Nat} (hs : s < 2) {P : Int32 → Prop} (h : P 0) : wpX_bad P (nI s) := br_f (nI_pos (by omega)) (br_t (nI_le (b := 1) (by omega) (by decide)) h)
theorem zr_okY {s : Nat} (hs : s < 2) {P : Int32 → Prop} {v : SY} (h : P 0) : wpY_bad P v (nI s) := br_f (nI_pos (by omega)) (br_t (nI_le (b := 1) (by omega) (by decide)) h)
def zr_S (B : Nat → Nat) (g : zg_S) : Prop := ∀ t, t < 2 → g.1 t = B t ∧ g.2.1 t = B (1 - t)
theorem zr_S_of {W : Nat} {B T : Nat → Nat} {g : zg_S} (I : zg_I W B T g) (hm : zg_mu B g = 0) : zr_S B g := by
  have J0 := I.2.2 0 (by decide)
  have J1 := I.2.2 1 (by decide)
  have x0 : (1 - 0 : Nat) = 1 := rfl
  have x1 : (1 - 1 : Nat) = 0 := rfl
  rw [x0] at J0
  rw [x1] at J1
  have a1 := J0.2.1
  have a2 := J0.2.2.1
  have b1 := J1.2.1
  have b2 := J1.2.2.1
  unfold zg_mu at hm
  refine zp_cases (s := 0) (by decide) ⟨by omega, ?_⟩ ⟨?_, ?_⟩
  · rw [x0]; omega
  · rw [x0]; omega
  · rw [x0, x1]; omega
/-- taking moves T alone -/
theorem zr_I_T {W : Nat} {B T : Nat → Nat} {g : zg_S} {s n : Nat} (hs : s < 2) (I : zg_I W B T g) (S : zr_S B g) (hn : T s + n ≤ B (1 - s)) : zg_I W B (zz_u T s (T s + n)) g := by
  obtain ⟨w1, w2, I⟩ := I
  obtain ⟨z1, z2, z3⟩ := zp_2 hs
  refine ⟨w1, w2, zp_cases z1 ?_ ?_⟩
  · obtain ⟨c1, c2, c3, c4, c5, c6, c7⟩ := I (1 - s) z1
    have e := (S (1 - s) z1).1
    rw [z2, zz_us]
    rw [z2] at c1 c2 c3 c4 c6
    exact ⟨by omega, c2, c3, by omega, c5, c6, c7⟩
  · rw [z2, zz_un z3]
    exact I s hs
theorem zx_takeOne {post : Int32 → SX → Prop} {W : Nat} {A B E T u : Nat → Nat} {q o : Nat → Bool} {L : Nat → List zm_Fr} {bf : Nat → Nat → Nat} {X : SX} {s : Nat} (h : zc_R W A B E T u q o L bf X) (hs : s < 2) (hT : T s < E s)
    (hp : ∀ X', zc_R W A B E (zz_u T s (T s + 1)) u q o L bf X' → post (nI (bf (1 - s) (T s))) X') : wpX_takeOne post X (nI s) := by
  obtain ⟨fw, sh, sc, sb, fn, uw, ex, aq, ow, gh, gc, gb, fi, fs, fr⟩ := X
  obtain ⟨r1, r2, r3, r4, r5, r6, r7, r8, r9, r10, r11, r12, r13, r14, r15⟩ := h
  have hc : (nI s).toNatClampNeg = s := nI_clamp (by omega)
  have hi : vp_in (nI s) 2 := vp_in_nI hs (by decide)
  have r10' : gh s = nI (T s % 32) := r10 s hs
  have r11' : gc s = nI (E s - (T s + 1) + 1) := by
    have z : gc s = nI (E s - T s) := r11 s hs
    have e : E s - T s = E s - (T s + 1) + 1 := by omega
    rw [z, e]
  have r13' : fi s = nI (T s) := r13 s hs
  have r12' : gb (s * 32 + T s % 32) = nI (bf (1 - s) (T s)) := r12 s hs (T s) (Nat.le_refl _) hT
  have ec : (nI (s * 32 + T s % 32)).toNatClampNeg = s * 32 + T s % 32 := nI_clamp (by omega)
  have e32 : (nI (T s % 32) + 1) &&& 31 = nI ((T s + 1) % 32) := zx_m32 (b := 1) (by decide)
  unfold wpX_takeOne
  have e13 : nI (T s) + 1 = nI (T s + 1) := nI_1 _
  simp only [hc, r10', r11', r13', zx_32, ec, r12', e32, nI_pred, e13]
  refine ⟨hi, vp_in_nI (by omega) (by decide), nm_e ⟨hi, hi, nm_e ⟨hi, hi, nm_e ⟨hi, hi, nm_e (hp _ ?_)⟩⟩⟩⟩
  refine ⟨r1, r2, r3, r4, r5, r6, r7, r8, r9, zc_au r10 (by rw [zz_us]) (fun t ht => by rw [zz_un ht]), zc_au r11 (by rw [zz_us]) (fun t ht => by rw [zz_un ht]), ?_, zc_au r13 (by rw [zz_us]) (fun t ht => by rw [zz_un ht]), r14, r15⟩
  intro t ht j hj1 hj2
  refine r12 t ht j ?_ hj2
  by_cases e : t = s
  · subst e
    rw [zz_us] at hj1
    omega
  · rw [zz_un e] at hj1
    exact hj1
theorem zx_byteAt {post : Int32 → Prop} {W : Nat} {A B E T u : Nat → Nat} {q o : Nat → Bool} {L : Nat → List zm_Fr} {bf : Nat → Nat → Nat} {X : SX} {s : Nat} (i : Nat) (h : zc_R W A B E T u q o L bf X) (hs : s < 2) (hi32 : i < 2 ^ 31) (hT : T s + i < E s) (hp : post (nI (bf (1 - s) (T s + i)))) : wpX_byteAt post X (nI s) (nI i) := by
  obtain ⟨fw, sh, sc, sb, fn, uw, ex, aq, ow, gh, gc, gb, fi, fs, fr⟩ := X
  obtain ⟨r1, r2, r3, r4, r5, r6, r7, r8, r9, r10, r11, r12, r13, r14, r15⟩ := h
  have hc : (nI s).toNatClampNeg = s := nI_clamp (by omega)
  have hi : vp_in (nI s) 2 := vp_in_nI hs (by decide)
  have r10' : gh s = nI (T s % 32) := r10 s hs
  have r12' : gb (s * 32 + (T s + i) % 32) = nI (bf (1 - s) (T s + i)) := r12 s hs (T s + i) (by omega) hT
  have ec : (nI (s * 32 + (T s + i) % 32)).toNatClampNeg = s * 32 + (T s + i) % 32 := nI_clamp (by omega)
  unfold wpX_byteAt
  simp only [hc, r10', zx_m32 hi32, zx_32, ec, r12']
  exact ⟨hi, vp_in_nI (by omega) (by decide), hp⟩
theorem zx_wait {post : Int32 → SX → Prop} {W : Nat} {B T : Nat → Nat} {bf : Nat → Nat → Nat} {g : zg_S} {X : SX} {s : Nat} (hs : s < 2) (hb : ∀ t j, bf t j < 512) (I : zg_I W B T g) (h : zb_B W B T bf g X)
    (hp : ∀ g' X', zb_B W B T bf g' X' → zg_I W B T g' → zr_S B g' → post (nI (B (1 - s) - T s)) X') : wpX_waitingFor post X (nI s) := by
  obtain ⟨fw, sh, sc, sb, fn, uw, ex, aq, ow, gh, gc, gb, fi, fs, fr⟩ := X
  have hc : (nI s).toNatClampNeg = s := nI_clamp (by omega)
  have hi : vp_in (nI s) 2 := vp_in_nI hs (by decide)
  unfold wpX_waitingFor
  refine zb_settle hb I h ?_
  rintro g' ⟨fw', sh', sc', sb', fn', uw', ex', aq', ow', gh', gc', gb', fi', fs', fr'⟩ h' I' hm
  have S := zr_S_of I' hm
  refine ⟨hi, ?_⟩
  have e : gc' s = nI (g'.2.1 s - T s) := h'.2.2.2.2.2.2.2.2.2.2.1 s hs
  rw [(S s hs).2] at e
  rw [hc, e]
  exact hp g' _ h' I' S
/-! sums over what waits -/
def zs_s (f : Nat → Nat) : Nat → Nat → Nat
  | _, 0 => 0
  | i, m + 1 => f i + zs_s f (i + 1) m
theorem zs_0 (f : Nat → Nat) : ∀ m i, zs_s f i m = 0 → ∀ j, j < m → f (i + j) = 0 := by
  intro m
  induction m with
  | zero => intro i _ j hj; omega
  | succ m ih =>
    intro i h j hj
    have h' : f i + zs_s f (i + 1) m = 0 := h
    rcases Nat.eq_zero_or_pos j with z | z
    · subst z
      show f i = 0
      omega
    · have := ih (i + 1) (by omega) (j - 1) (by omega)
      have e : i + 1 + (j - 1) = i + j := by omega
      rw [e] at this
      exact this
theorem zs_p (f : Nat → Nat) : ∀ m i, zs_s f i m ≠ 0 → ∃ p, p < m ∧ f (i + p) ≠ 0 ∧ ∀ j, j < p → f (i + j) = 0 := by
  intro m
  induction m with
  | zero => intro i h; exact absurd rfl h
  | succ m ih =>
    intro i h
    have h' : f i + zs_s f (i + 1) m ≠ 0 := h
    by_cases z : f i = 0
    · obtain ⟨p, h1, h2, h3⟩ := ih (i + 1) (by omega)
      have e : ∀ j, i + 1 + j = i + (j + 1) := fun j => by omega
      refine ⟨p + 1, by omega, by rw [← e]; exact h2, fun j hj => ?_⟩
      rcases Nat.eq_zero_or_pos j with y | y
      · subst y; exact z
      · have := h3 (j - 1) (by omega)
        rw [e, Nat.sub_add_cancel y] at this
        exact this
    · exact ⟨0, by omega, z, fun j hj => by omega⟩
theorem zx_marked0 {post : Int32 → Prop} {W : Nat} {A B E T u : Nat → Nat} {q o : Nat → Bool} {L : Nat → List zm_Fr} {bf : Nat → Nat → Nat} (fw : Int32) (sh sc sb fn uw ex aq ow gh gc gb fi fs fr : Nat → Int32) {s : Nat} (h : zc_R W A B E T u q o L bf (fw, sh, sc, sb, fn, uw, ex, aq, ow, gh, gc, gb, fi, fs, fr)) (hs : s < 2) (hb : ∀ t j, bf t j < 512) (hE : E s < T s + 32) : ∀ (m n i c : Nat), T s + i + m = E s → m < n → post (nI (c + zs_s (fun i => bf (1 - s) (T s + i) / 256) i m)) → wX_marked_4 post (nI s) fw sh sc sb fn uw ex aq ow gh gc gb fi fs fr n (nI c) (nI i) := by
  have hc : (nI s).toNatClampNeg = s := nI_clamp (by omega)
  have hi : vp_in (nI s) 2 := vp_in_nI hs (by decide)
  have r11' : gc s = nI (E s - T s) := h.2.2.2.2.2.2.2.2.2.2.1 s hs
  intro m
  induction m with
  | zero =>
    intro n i c e hn hp
    obtain ⟨n, rfl⟩ : ∃ k, n = k + 1 := ⟨n - 1, by omega⟩
    unfold wX_marked_4
    simp only [hc, r11']
    exact ⟨hi, br_t (nI_le (by omega) (by omega)) hp⟩
  | succ m ih =>
    intro n i c e hn hp
    obtain ⟨n, rfl⟩ : ∃ k, n = k + 1 := ⟨n - 1, by omega⟩
    have hv := hb (1 - s) (T s + i)
    unfold wX_marked_4
    simp only [hc, r11']
    refine ⟨hi, br_f (nI_ge (by omega) (by omega)) (zx_byteAt i h hs (by omega) (by omega) (nm_r (e' := nI (c + bf (1 - s) (T s + i) / 256)) ?_ (nm_r (nI_1 i) (ih n (i + 1) _ (by omega) (by omega) ?_))))⟩
    · rw [zk_shrP (p := 256) (by omega) 8 (by decide) (by decide), nI_add]
    · rw [Nat.add_assoc]
      exact hp
theorem zx_sum0 {post : Int32 → SX → Prop} {W : Nat} {A B E T u : Nat → Nat} {q o : Nat → Bool} {L : Nat → List zm_Fr} {bf : Nat → Nat → Nat} (fw : Int32) (sh sc sb fn uw ex aq ow gh gc gb fi fs fr : Nat → Int32) {s N : Nat} (h : zc_R W A B E T u q o L bf (fw, sh, sc, sb, fn, uw, ex, aq, ow, gh, gc, gb, fi, fs, fr)) (hs : s < 2) (hb : ∀ t j, bf t j < 512) (hE : T s + N = E s) (hN : N < 32) : ∀ (m n i c : Nat), i + m = N → m < n → post (nI (c + zs_s (fun i => bf (1 - s) (T s + i) % 256) i m)) (fw, sh, sc, sb, fn, uw, ex, aq, ow, gh, gc, gb, fi, fs, fr) → wX_sum_20 post (nI s) (nI N) fw sh sc sb fn uw ex aq ow gh gc gb fi fs fr n (nI c) (nI i) := by
  intro m
  induction m with
  | zero =>
    intro n i c e hn hp
    obtain ⟨n, rfl⟩ : ∃ k, n = k + 1 := ⟨n - 1, by omega⟩
    unfold wX_sum_20
    exact br_t (nI_le (by omega) (by omega)) hp
  | succ m ih =>
    intro n i c e hn hp
    obtain ⟨n, rfl⟩ : ∃ k, n = k + 1 := ⟨n - 1, by omega⟩
    have hv := hb (1 - s) (T s + i)
    unfold wX_sum_20
    refine br_f (nI_ge (by omega) (by omega)) (zx_byteAt i h hs (by omega) (by omega) (nm_r (e' := nI (c + bf (1 - s) (T s + i) % 256)) ?_ (nm_r (nI_1 i) (ih n (i + 1) _ (by omega) (by omega) ?_))))
    · rw [zk_andP (p := 256) (by omega) 8 (by decide) (by decide), nI_add]
    · rw [Nat.add_assoc]
      exact hp
theorem zx_skip0 {post : Int32 → SX → Prop} {W : Nat} {A B E u : Nat → Nat} {q o : Nat → Bool} {L : Nat → List zm_Fr} {bf : Nat → Nat → Nat} {s N : Nat} (hs : s < 2) (hN : N < 32) : ∀ (m n i : Nat) (T : Nat → Nat) (fw : Int32) (sh sc sb fn uw ex aq ow gh gc gb fi fs fr : Nat → Int32), zc_R W A B E T u q o L bf (fw, sh, sc, sb, fn, uw, ex, aq, ow, gh, gc, gb, fi, fs, fr) → T s + m = E s → i + m = N → m < n → (∀ X', zc_R W A B E (zz_u T s (T s + m)) u q o L bf X' → post (nI N) X') → wX_skip_17 post (nI s) (nI N) n (nI i) fw sh sc sb fn uw ex aq ow gh gc gb fi fs fr := by
  intro m
  induction m with
  | zero =>
    intro n i T fw sh sc sb fn uw ex aq ow gh gc gb fi fs fr h hE e hn hp
    obtain ⟨n, rfl⟩ : ∃ k, n = k + 1 := ⟨n - 1, by omega⟩
    unfold wX_skip_17
    refine br_t (nI_le (by omega) (by omega)) (hp _ ?_)
    rw [zz_ui (Nat.add_zero _)]
    exact h
  | succ m ih =>
    intro n i T fw sh sc sb fn uw ex aq ow gh gc gb fi fs fr h hE e hn hp
    obtain ⟨n, rfl⟩ : ∃ k, n = k + 1 := ⟨n - 1, by omega⟩
    unfold wX_skip_17
    refine br_f (nI_ge (by omega) (by omega)) (zx_takeOne h hs (by omega) ?_)
    rintro ⟨fw', sh', sc', sb', fn', uw', ex', aq', ow', gh', gc', gb', fi', fs', fr'⟩ h'
    refine nm_r (nI_1 i) (ih n (i + 1) _ _ _ _ _ _ _ _ _ _ _ _ _ _ _ _ h' (by rw [zz_us]; omega) (by omega) (by omega) ?_)
    intro X'' h''
    rw [zz_uu, zz_us] at h''
    have e2 : T s + 1 + m = T s + (m + 1) := by omega
    rw [e2] at h''
    exact hp X'' h''
/-- the loop of takeMessage: i + 1 bytes are taken, the last of them is the i-th -/
theorem zx_msg0 {post : Int32 → SX → Prop} {W : Nat} {A B E u : Nat → Nat} {q o : Nat → Bool} {L : Nat → List zm_Fr} {bf : Nat → Nat → Nat} {s p t0 : Nat} (hs : s < 2) (hb : ∀ t j, bf t j < 512) (hp30 : p < 30) (hE : t0 + p < E s) (hend : bf (1 - s) (t0 + p) / 256 ≠ 0) (hmid : ∀ j, j < p → bf (1 - s) (t0 + j) / 256 = 0) : ∀ (m n i : Nat) (T : Nat → Nat) (fw : Int32) (sh sc sb fn uw ex aq ow gh gc gb fi fs fr : Nat → Int32), zc_R W A B E T u q o L bf (fw, sh, sc, sb, fn, uw, ex, aq, ow, gh, gc, gb, fi, fs, fr) → T s = t0 + i + 1 → i + m = p → m < n → (∀ X', zc_R W A B E (zz_u T s (t0 + p + 1)) u q o L bf X' → post (nI (p + 1)) X') → wX_takeMessage_38 post (nI s) n (nI (i + 1)) (nI (bf (1 - s) (t0 + i))) (nI i) fw sh sc sb fn uw ex aq ow gh gc gb fi fs fr := by
  intro m
  induction m with
  | zero =>
    intro n i T fw sh sc sb fn uw ex aq ow gh gc gb fi fs fr h hT e hn hp
    obtain ⟨n, rfl⟩ : ∃ k, n = k + 1 := ⟨n - 1, by omega⟩
    obtain rfl : i = p := by omega
    have hv := hb (1 - s) (t0 + i)
    unfold wX_takeMessage_38
    refine br_f (nI_ge (b := 30) (by omega) (by decide)) (br_t (nI_le (a := 256) (by omega) (by omega)) (hp _ ?_))
    rw [zz_ui hT.symm]
    exact h
  | succ m ih =>
    intro n i T fw sh sc sb fn uw ex aq ow gh gc gb fi fs fr h hT e hn hp
    obtain ⟨n, rfl⟩ : ∃ k, n = k + 1 := ⟨n - 1, by omega⟩
    have hv := hmid i (by omega)
    unfold wX_takeMessage_38
    refine br_f (nI_ge (b := 30) (by omega) (by decide)) (br_f (nI_ge (b := 256) (by omega) (by decide)) (zx_takeOne h hs (by omega) ?_))
    rintro ⟨fw', sh', sc', sb', fn', uw', ex', aq', ow', gh', gc', gb', fi', fs', fr'⟩ h'
    have e2 : T s = t0 + (i + 1) := by omega
    have key := ih n (i + 1) _ _ _ _ _ _ _ _ _ _ _ _ _ _ _ _ h' (by rw [zz_us]; omega) (by omega) (by omega) (by
      intro X'' h''
      rw [zz_uu] at h''
      exact hp X'' h'')
    rw [← e2] at key
    exact nm_r (nI_1 (i + 1)) (nm_r (nI_1 i) key)
/-! the reference's loops -/
theorem zx_30 (s i : Nat) : nI s * 30 + nI i = nI (s * 30 + i) := by
  rw [show (30 : Int32) = nI 30 from rfl, pk_mul, nI_add]
theorem zy_nar {x : Nat} (h : x < 2) : vp_nar .boolean (nI x) = nI x := by
  rcases (by omega : x = 0 ∨ x = 1) with rfl | rfl <;> rfl
def zy_sh (s n i : Nat) (a : Nat → Int32) : Nat → Int32 := fun j => if s * 30 ≤ j ∧ j < s * 30 + i then a (j + n) else a j
def zy_sm (s n i : Nat) (a : Nat → Int32) : Nat → Int32 := fun j => if s * 30 ≤ j ∧ j < s * 30 + i then vp_nar .boolean (a (j + n)) else a j
theorem zy_sh_s (s n i : Nat) (a : Nat → Int32) : upd (zy_sh s n i a) (s * 30 + i) (zy_sh s n i a (s * 30 + i + n)) = zy_sh s n (i + 1) a := by
  funext j
  unfold upd zy_sh
  by_cases h : j = s * 30 + i
  · rw [if_pos h, if_neg (by omega), if_pos (by omega), h]
  · rw [if_neg h]
    by_cases h2 : s * 30 ≤ j ∧ j < s * 30 + i
    · rw [if_pos h2, if_pos (by omega)]
    · rw [if_neg h2, if_neg (by omega)]
theorem zy_sm_s (s n i : Nat) (a : Nat → Int32) : upd (zy_sm s n i a) (s * 30 + i) (vp_nar .boolean (zy_sm s n i a (s * 30 + i + n))) = zy_sm s n (i + 1) a := by
  funext j
  unfold upd zy_sm
  by_cases h : j = s * 30 + i
  · rw [if_pos h, if_neg (by omega), if_pos (by omega), h]
  · rw [if_neg h]
    by_cases h2 : s * 30 ≤ j ∧ j < s * 30 + i
    · rw [if_pos h2, if_pos (by omega)]
    · rw [if_neg h2, if_neg (by omega)]
theorem zy_off0 {post : SY → Prop} {yb ym yc yg : Nat → Int32} {s n : Nat} (hs : s < 2) (hn : n ≤ 30) (hp : post (zy_sh s n (30 - n) yb, zy_sm s n (30 - n) ym, upd yc s (yc s - nI n), upd yg s (yg s + nI n))) : ∀ (m k i : Nat), i + m = 30 - n → m < k → wY_off_2 post (nI s) (nI n) k (nI i) (zy_sh s n i yb) (zy_sm s n i ym) yc yg := by
  have hc : (nI s).toNatClampNeg = s := nI_clamp (by omega)
  have hi : vp_in (nI s) 2 := vp_in_nI hs (by decide)
  intro m
  induction m with
  | zero =>
    intro k i e hk
    obtain ⟨k, rfl⟩ : ∃ j, k = j + 1 := ⟨k - 1, by omega⟩
    obtain rfl : i = 30 - n := by omega
    unfold wY_off_2
    simp only [hc, nI_add]
    exact br_t (nI_le (a := 30) (by omega) (by omega)) ⟨hi, hi, nm_e ⟨hi, hi, nm_e hp⟩⟩
  | succ m ih =>
    intro k i e hk
    obtain ⟨k, rfl⟩ : ∃ j, k = j + 1 := ⟨k - 1, by omega⟩
    have e1 : (nI (s * 30 + i)).toNatClampNeg = s * 30 + i := nI_clamp (by omega)
    have e2 : (nI (s * 30 + i + n)).toNatClampNeg = s * 30 + i + n := nI_clamp (by omega)
    have v1 : vp_in (nI (s * 30 + i)) 60 := vp_in_nI (by omega) (by decide)
    have v2 : vp_in (nI (s * 30 + i + n)) 60 := vp_in_nI (by omega) (by decide)
    unfold wY_off_2
    simp only [hc, zx_30, nI_add, e1, e2]
    exact br_f (nI_ge (b := 30) (by omega) (by decide)) ⟨v2, v1, nm_r (zy_sh_s s n i yb) ⟨v2, v1, nm_r (zy_sm_s s n i ym) (nm_r (nI_1 i) (ih k (i + 1) (by omega) (by omega)))⟩⟩
theorem zy_off {post : SY → Prop} {B T : Nat → Nat} {bf : Nat → Nat → Nat} {v : SY} {s n : Nat} (hs : s < 2) (hb : ∀ t j, bf t j < 512) (hY : zr_Y B T bf v) (hn : T s + n ≤ B (1 - s)) (hB : ∀ t, t < 2 → B (1 - t) ≤ T t + 30) (hp : ∀ v', zr_Y B (zz_u T s (T s + n)) bf v' → post v') : wpY_off post v (nI s) (nI n) := by
  obtain ⟨yb, ym, yc, yg⟩ := v
  obtain ⟨h1, h2, h3⟩ := hY
  have hBs := hB s hs
  have z0 : zy_sh s n 0 yb = yb := by
    funext j
    exact if_neg (by omega)
  have z1 : zy_sm s n 0 ym = ym := by
    funext j
    exact if_neg (by omega)
  refine ⟨30 - n + 1, ?_⟩
  have key := zy_off0 (post := post) (yb := yb) (ym := ym) (yc := yc) (yg := yg) (s := s) (n := n) hs (by omega) (hp _ ?_) (30 - n) (30 - n + 1) 0 (by omega) (by omega)
  · rw [z0, z1] at key
    exact key
  · refine ⟨zc_au h1 ?_ (fun t ht => by rw [zz_un ht]), zc_au h2 ?_ (fun t ht => by rw [zz_un ht]), ?_⟩
    · have e : yc s = nI (B (1 - s) - T s) := h1 s hs
      rw [e, pk_sub (by omega), zz_us, Nat.sub_sub]
    · rw [h2 s hs, nI_add, zz_us]
    · intro t ht i hi
      have hBt := hB t ht
      by_cases e : t = s
      · subst e
        rw [zz_us] at hi ⊢
        have e1 : zy_sh t n (30 - n) yb (t * 30 + i) = yb (t * 30 + (n + i)) := by
          have : t * 30 + i + n = t * 30 + (n + i) := by omega
          unfold zy_sh
          rw [if_pos (by omega), this]
        have e2 : zy_sm t n (30 - n) ym (t * 30 + i) = vp_nar .boolean (ym (t * 30 + (n + i))) := by
          have : t * 30 + i + n = t * 30 + (n + i) := by omega
          unfold zy_sm
          rw [if_pos (by omega), this]
        obtain ⟨g1, g2⟩ := h3 t ht (n + i) (by omega)
        have hv := hb (1 - t) (T t + (n + i))
        rw [e1, e2, g1, g2, zy_nar (by omega), Nat.add_assoc]
        exact ⟨rfl, rfl⟩
      · rw [zz_un e] at hi ⊢
        have e1 : zy_sh s n (30 - n) yb (t * 30 + i) = yb (t * 30 + i) := if_neg (by omega)
        have e2 : zy_sm s n (30 - n) ym (t * 30 + i) = ym (t * 30 + i) := if_neg (by omega)
        rw [e1, e2]
        exact h3 t ht i hi
theorem zy_msgs0 {post : Int32 → Prop} {B T : Nat → Nat} {bf : Nat → Nat → Nat} {yb ym yc yg : Nat → Int32} {s : Nat} (hs : s < 2) (hb : ∀ t j, bf t j < 512) (hY : zr_Y B T bf (yb, ym, yc, yg)) (hB : B (1 - s) ≤ T s + 30) : ∀ (m n i c : Nat), i + m = B (1 - s) - T s → m < n → post (nI (c + zs_s (fun i => bf (1 - s) (T s + i) / 256) i m)) → wY_messages_14 post (nI s) yb ym yc yg n (nI c) (nI i) := by
  obtain ⟨h1, h2, h3⟩ := hY
  have hc : (nI s).toNatClampNeg = s := nI_clamp (by omega)
  have hi : vp_in (nI s) 2 := vp_in_nI hs (by decide)
  have h1' : yc s = nI (B (1 - s) - T s) := h1 s hs
  intro m
  induction m with
  | zero =>
    intro n i c e hn hp
    obtain ⟨n, rfl⟩ : ∃ k, n = k + 1 := ⟨n - 1, by omega⟩
    unfold wY_messages_14
    simp only [hc, h1']
    exact ⟨hi, br_t (nI_le (by omega) (by omega)) hp⟩
  | succ m ih =>
    intro n i c e hn hp
    obtain ⟨n, rfl⟩ : ∃ k, n = k + 1 := ⟨n - 1, by omega⟩
    have hv := hb (1 - s) (T s + i)
    have g2 := (h3 s hs i (by omega)).2
    have ec : (nI (s * 30 + i)).toNatClampNeg = s * 30 + i := nI_clamp (by omega)
    unfold wY_messages_14
    simp only [hc, h1', zx_30, ec, g2]
    have hp' : post (nI (c + bf (1 - s) (T s + i) / 256 + zs_s (fun i => bf (1 - s) (T s + i) / 256) (i + 1) m)) := by
      rw [Nat.add_assoc]
      exact hp
    refine ⟨hi, br_f (nI_ge (by omega) (by omega)) ⟨vp_in_nI (by omega) (by decide), pk_eq (bf (1 - s) (T s + i) / 256) 0 (fun z => ?_) (fun z => ?_)⟩⟩
    · rw [z] at hp'
      exact nm_r (nI_1 i) (ih n (i + 1) c (by omega) (by omega) hp')
    · have z1 : bf (1 - s) (T s + i) / 256 = 1 := by omega
      rw [z1] at hp'
      exact nm_r (nI_1 c) (nm_r (nI_1 i) (ih n (i + 1) (c + 1) (by omega) (by omega) hp'))
theorem zy_sum0 {post : Int32 → Prop} {B T : Nat → Nat} {bf : Nat → Nat → Nat} {yb ym yc yg : Nat → Int32} {s : Nat} (hs : s < 2) (hY : zr_Y B T bf (yb, ym, yc, yg)) (hB : B (1 - s) ≤ T s + 30) : ∀ (m n i c : Nat), i + m = B (1 - s) - T s → m < n → post (nI (c + zs_s (fun i => bf (1 - s) (T s + i) % 256) i m)) → wY_sum_14 post (nI s) yb ym yc yg n (nI c) (nI i) := by
  obtain ⟨h1, h2, h3⟩ := hY
  have hc : (nI s).toNatClampNeg = s := nI_clamp (by omega)
  have hi : vp_in (nI s) 2 := vp_in_nI hs (by decide)
  have h1' : yc s = nI (B (1 - s) - T s) := h1 s hs
  intro m
  induction m with
  | zero =>
    intro n i c e hn hp
    obtain ⟨n, rfl⟩ : ∃ k, n = k + 1 := ⟨n - 1, by omega⟩
    unfold wY_sum_14
    simp only [hc, h1']
    exact ⟨hi, br_t (nI_le (by omega) (by omega)) hp⟩
  | succ m ih =>
    intro n i c e hn hp
    obtain ⟨n, rfl⟩ : ∃ k, n = k + 1 := ⟨n - 1, by omega⟩
    have g1 := (h3 s hs i (by omega)).1
    have ec : (nI (s * 30 + i)).toNatClampNeg = s * 30 + i := nI_clamp (by omega)
    unfold wY_sum_14
    simp only [hc, h1', zx_30, ec, g1]
    refine ⟨hi, br_f (nI_ge (by omega) (by omega)) ⟨vp_in_nI (by omega) (by decide), nm_r (nI_add _ _) (nm_r (nI_1 i) (ih n (i + 1) _ (by omega) (by omega) ?_))⟩⟩
    rw [Nat.add_assoc]
    exact hp
/-- the reference's search for the first end -/
theorem zy_find0 {post : Int32 → SY → Prop} {B T : Nat → Nat} {bf : Nat → Nat → Nat} {yb ym yc yg : Nat → Int32} {s : Nat} (hs : s < 2) (hb : ∀ t j, bf t j < 512) (hY : zr_Y B T bf (yb, ym, yc, yg)) (hB : ∀ t, t < 2 → B (1 - t) ≤ T t + 30)
    (h0 : (∀ j, j < B (1 - s) - T s → bf (1 - s) (T s + j) / 256 = 0) → post (-3) (yb, ym, yc, yg))
    (hq : ∀ p, p < B (1 - s) - T s → bf (1 - s) (T s + p) / 256 ≠ 0 → (∀ j, j < p → bf (1 - s) (T s + j) / 256 = 0) → ∀ v', zr_Y B (zz_u T s (T s + (p + 1))) bf v' → post (nI (p + 1)) v') : ∀ (m n i : Nat), i + m = B (1 - s) - T s → m < n → (∀ j, j < i → bf (1 - s) (T s + j) / 256 = 0) → wY_takeMessage_12 post (nI s) yb ym yc yg n (nI i) := by
  have hY0 := hY
  obtain ⟨h1, h2, h3⟩ := hY
  have hBs := hB s hs
  have hc : (nI s).toNatClampNeg = s := nI_clamp (by omega)
  have hi : vp_in (nI s) 2 := vp_in_nI hs (by decide)
  have h1' : yc s = nI (B (1 - s) - T s) := h1 s hs
  intro m
  induction m with
  | zero =>
    intro n i e hn hz
    obtain ⟨n, rfl⟩ : ∃ k, n = k + 1 := ⟨n - 1, by omega⟩
    unfold wY_takeMessage_12
    simp only [hc, h1']
    exact ⟨hi, br_t (nI_le (by omega) (by omega)) (h0 (fun j hj => hz j (by omega)))⟩
  | succ m ih =>
    intro n i e hn hz
    obtain ⟨n, rfl⟩ : ∃ k, n = k + 1 := ⟨n - 1, by omega⟩
    have hv := hb (1 - s) (T s + i)
    have g2 := (h3 s hs i (by omega)).2
    have ec : (nI (s * 30 + i)).toNatClampNeg = s * 30 + i := nI_clamp (by omega)
    unfold wY_takeMessage_12
    simp only [hc, h1', zx_30, ec, g2, nI_1]
    refine ⟨hi, br_f (nI_ge (by omega) (by omega)) ⟨vp_in_nI (by omega) (by decide), pk_eq (bf (1 - s) (T s + i) / 256) 0 (fun z => ?_) (fun z => ?_)⟩⟩
    · refine nm_e (ih n (i + 1) (by omega) (by omega) (fun j hj => ?_))
      rcases Nat.lt_or_ge j i with y | y
      · exact hz j y
      · have : j = i := by omega
        rw [this]
        exact z
    · refine zy_off hs hb hY0 (by omega) hB ?_
      rintro ⟨yb', ym', yc', yg'⟩ h'
      exact hq i (by omega) z hz _ h'
end
section
/-! give, carry, fire, reset of the component -/
def zz_b (bf : Nat → Nat → Nat) (s n v : Nat) : Nat → Nat → Nat := fun t j => if t = s ∧ j = n then v else bf t j
theorem zz_b_lt {bf : Nat → Nat → Nat} {s n v : Nat} (hb : ∀ t j, bf t j < 512) (hv : v < 512) : ∀ t j, zz_b bf s n v t j < 512 := by
  intro t j
  unfold zz_b
  split
  · exact hv
  · exact hb t j
theorem zk_enc_c {bf bf' : Nat → Nat} {f : zm_Fr} (h : f.1 = 0 → bf' f.2.1 = bf f.2.1) : zk_enc bf' f = zk_enc bf f := by
  unfold zk_enc zk_cont zk_byt
  by_cases h0 : f.1 = 0
  · rw [if_pos h0, if_pos h0, h h0]
  · rw [if_neg h0, if_neg h0]
theorem zx_waits {post : Int32 → Prop} {W : Nat} {B T : Nat → Nat} {bf : Nat → Nat → Nat} {g : zg_S} {X : SX} {s : Nat} (hs : s < 2) (I : zg_I W B T g) (h : zb_B W B T bf g X) (hp : post (nI (B s - T (1 - s)))) : wpX_waitingOrSent post X (nI s) := by
  obtain ⟨fw, sh, sc, sb, fn, uw, ex, aq, ow, gh, gc, gb, fi, fs, fr⟩ := X
  obtain ⟨r1, r2, r3, r4, r5, r6, r7, r8, r9, r10, r11, r12, r13, r14, r15⟩ := h
  obtain ⟨z1, z2, z3⟩ := zp_2 hs
  obtain ⟨c1, c2, c3, c4, c5, c6, c7⟩ := I.2.2 s hs
  have w2 := I.2.1
  have hc : (nI s).toNatClampNeg = s := nI_clamp (by omega)
  have hi : vp_in (nI s) 2 := vp_in_nI hs (by decide)
  have hc' : (nI (1 - s)).toNatClampNeg = 1 - s := nI_clamp (by omega)
  have hi' : vp_in (nI (1 - s)) 2 := vp_in_nI z1 (by decide)
  have r7' : ex (1 - s) = nI (g.2.1 (1 - s) % 8) := r7 (1 - s) z1
  have r5' : fn s = nI (g.1 s % 8) := r5 s hs
  have r11' : gc (1 - s) = nI (g.2.1 (1 - s) - T (1 - s)) := r11 (1 - s) z1
  have r3' : sc s = nI (B s - g.1 s) := r3 s hs
  have e8 : (g.2.1 (1 - s) % 8 + 8 - g.1 s % 8) % 8 = g.2.1 (1 - s) - g.1 s := by omega
  have ev : nI (g.2.1 (1 - s) - T (1 - s)) + nI (B s - g.1 s) - nI (g.2.1 (1 - s) - g.1 s) = nI (B s - T (1 - s)) := by
    rw [nI_add, pk_sub (by omega)]
    have e : g.2.1 (1 - s) - T (1 - s) + (B s - g.1 s) - (g.2.1 (1 - s) - g.1 s) = B s - T (1 - s) := by omega
    rw [e]
  unfold wpX_waitingOrSent
  refine nm_r (zb_1s hs) ⟨hi', hi, ?_⟩
  rw [hc', hc, r7', r5', zx_s8, e8, r11', r3']
  refine nm_e ⟨hi', hi, ?_⟩
  rw [ev]
  exact hp
theorem zx_give78 {post : Int32 → SX → Prop} {W : Nat} {B T : Nat → Nat} {bf : Nat → Nat → Nat} {g : zg_S} (fw : Int32) (sh sc sb fn uw ex aq ow gh gc gb fi fs fr : Nat → Int32) {s v : Nat} {x4 z0 z1 : Int32} (hs : s < 2) (hb : ∀ t j, bf t j < 512) (I : zg_I W B T g) (h : zb_B W B T bf g (fw, sh, sc, sb, fn, uw, ex, aq, ow, gh, gc, gb, fi, fs, fr)) (hv : v < 512) (hroom : B s < T (1 - s) + 30) (e0 : z0 = nI v) (e1 : z1 = nI (s * 32 + B s % 32))
    (hp : ∀ g' X', zb_B W (zz_u B s (B s + 1)) T (zz_b bf s (B s) v) g' X' → zg_I W (zz_u B s (B s + 1)) T g' → post (x4 + 1) X') : wX_give_78 post (nI s) x4 z0 z1 fw sh sc sb fn uw ex aq ow gh gc gb fi fs fr := by
  obtain ⟨A, E, q, L⟩ := g
  obtain ⟨r1, r2, r3, r4, r5, r6, r7, r8, r9, r10, r11, r12, r13, r14, r15⟩ := h
  obtain ⟨y1, y2, y3⟩ := zp_2 hs
  have I0 := I
  obtain ⟨w1, w2, I⟩ := I
  have Is := I s hs
  obtain ⟨c1, c2, c3, c4, c5, c6, c7⟩ := Is
  dsimp only at c1 c2 c3 c4 c5 c6 c7 r2 r3 r4 r5 r6 r7 r8 r9 r10 r11 r12 r13 r14 r15
  have hc : (nI s).toNatClampNeg = s := nI_clamp (by omega)
  have hi : vp_in (nI s) 2 := vp_in_nI hs (by decide)
  have ec : (nI (s * 32 + B s % 32)).toNatClampNeg = s * 32 + B s % 32 := nI_clamp (by omega)
  have r3' : sc s = nI (B s - A s) := r3 s hs
  have es : nI (B s - A s) + 1 = nI (B s + 1 - A s) := by
    rw [nI_1]
    have e : B s - A s + 1 = B s + 1 - A s := by omega
    rw [e]
  subst e0 e1
  unfold wX_give_78
  simp only [hc, ec, r3']
  have hm : zm_wn W (B s) (A s) + (zm_wn W (B s + 1) (A s) - zm_wn W (B s) (A s)) = zm_wn W (B s + 1) (A s) := by
    unfold zm_wn
    omega
  refine ⟨vp_in_nI (by omega) (by decide), nm_e ⟨hi, hi, nm_e (zx_more (W := W) (A := A) (B := zz_u B s (B s + 1)) (E := E) (T := T) (u := fun t => zm_wn W (B t) (A t)) (q := q) (o := fun _ => false) (L := L) (bf := zz_b bf s (B s) v) (zm_wn W (B s + 1) (A s) - zm_wn W (B s) (A s)) ?_ hs (zz_b_lt hb hv s) w2 (by rw [zz_us]; omega) (by rw [zz_us]; exact hm) ?_)⟩⟩
  · refine ⟨r1, r2, zc_au r3 (by rw [zz_us]; exact es) (fun t ht => by rw [zz_un ht]), ?_, r5, r6, r7, r8, r9, r10, r11, ?_, r13, r14, ?_⟩
    · intro t ht j hj1 hj2
      by_cases e : t = s
      · subst e
        rw [zz_us] at hj2
        by_cases e2 : j = B t
        · rw [e2, pk_us]
          unfold zz_b
          rw [if_pos ⟨rfl, rfl⟩]
        · rw [pk_un (by omega), r4 t ht j hj1 (by omega)]
          unfold zz_b
          rw [if_neg (fun z => e2 z.2)]
      · rw [zz_un e] at hj2
        rw [pk_un (by omega), r4 t ht j hj1 hj2]
        unfold zz_b
        rw [if_neg (fun z => e z.1)]
    · intro t ht j hj1 hj2
      rw [r12 t ht j hj1 hj2]
      obtain ⟨x1, x2, x3⟩ := zp_2 ht
      have d3 := (I (1 - t) x1).2.2.1
      rw [x2] at d3
      dsimp only at d3
      show _ = nI (zz_b bf s (B s) v (1 - t) j)
      unfold zz_b
      rw [if_neg]
      rintro ⟨e, e2⟩
      rw [e] at d3
      omega
    · intro t ht
      obtain ⟨d1, d2⟩ := r15 t ht
      refine ⟨d1, fun i f hf => ?_⟩
      rw [d2 i f hf]
      refine (zk_enc_c (fun h0 => ?_)).symm
      have d3 := ((I t ht).2.2.2.2.2.1 f (List.mem_of_getElem? hf)).2.2.2 h0
      dsimp only at d3
      unfold zz_b
      rw [if_neg]
      rintro ⟨e, e2⟩
      rw [e] at d3
      omega
  · rintro ⟨fw', sh', sc', sb', fn', uw', ex', aq', ow', gh', gc', gb', fi', fs', fr'⟩ h'
    have eu : (fun t => zm_wn W (zz_u B s (B s + 1) t) (A t)) = zz_u (fun t => zm_wn W (B t) (A t)) s (zm_wn W (B s + 1) (A s)) := by
      funext t
      by_cases e : t = s
      · rw [e, zz_us, zz_us]
      · rw [zz_un e, zz_un e]
    rw [zb_f, ite_self, hm] at h'
    refine hp (A, E, q, zz_u L s ((L s ++ zm_dt (A s + zm_wn W (B s) (A s)) (zm_wn W (B s + 1) (A s) - zm_wn W (B s) (A s)) (E s)).take 16)) _ ?_ ?_
    · unfold zb_B
      dsimp only
      rw [eu]
      exact h'
    · have Ir := I (1 - s) y1
      refine ⟨w1, w2, zp_cases hs ?_ ?_⟩
      · dsimp only
        rw [zz_us, zz_us]
        have Is := I s hs
        rw [y2] at Ir
        exact zp_window w2 (zp_give Is hroom) Ir.2.1 _ _ (Nat.le_of_eq hm)
      · dsimp only
        rw [zz_un y3, zz_un y3]
        exact Ir
theorem zx_at (p : Int32) : (0 ≤ p - p / 25 * 25 → ∃ t, t < 25 ∧ p - p / 25 * 25 = nI t) ∧ (¬ 0 ≤ p - p / 25 * 25 → ∃ t, t < 25 ∧ p - p / 25 * 25 + 25 = nI t) := by
  have e := rem_toInt p 25
  have e25 : (25 : Int32).toInt = 25 := by decide
  have e0 : (0 : Int32).toInt = 0 := by decide
  rw [e25] at e
  have b := tmod_bounds (a := p.toInt) (M := 25) (by decide)
  rw [← e] at b
  generalize p - p / 25 * 25 = x at b
  refine ⟨fun h => ?_, fun h => ?_⟩
  · obtain ⟨j, hj, rfl⟩ := nI_of (x := x) (Int32.not_lt.mpr h)
    rw [nI_toInt hj] at b
    exact ⟨j, by omega, rfl⟩
  · rw [Int32.le_iff_toInt_le, e0] at h
    refine ⟨(x.toInt + 25).toNat, by omega, Int32.toInt_inj.mp ?_⟩
    rw [Int32.toInt_add, e25, nI_toInt (by omega)]
    rw [Int.bmod_eq_of_le (by omega) (by omega)]
    omega
theorem zx_flip71 {post : Int32 → SX → Prop} {W : Nat} {B T : Nat → Nat} {bf : Nat → Nat → Nat} {g : zg_S} (fw : Int32) (sh sc sb fn uw ex aq ow gh gc gb fi fs fr : Nat → Int32) {s t : Nat} {f : zm_Fr} {l : List zm_Fr} {z0 z1 z2 z3 : Int32} (hs : s < 2) (hb : ∀ t j, bf t j < 512) (I : zg_I W B T g) (hL : g.2.2.2 s = f :: l) (h : zb_B W B T bf g (fw, sh, sc, sb, fn, uw, ex, aq, ow, gh, gc, gb, fi, fs, fr)) (ht : t < 25) (e0 : z0 = nI t) (e1 : z1 = 1) (e2 : z2 = zk_enc (bf s) f) (e3 : z3 = nI (s * 16))
    (hp : ∀ X', zb_B W B T bf (zg_dr s l g) X' → post 0 X') : wX_carry_71 post (nI s) z0 z1 z2 z3 fw sh sc sb fn uw ex aq ow gh gc gb fi fs fr := by
  have ec : (nI (s * 16)).toNatClampNeg = s * 16 := nI_clamp (by omega)
  have hk := (I.2.2 s hs).2.2.2.2.2.1 f (by rw [hL]; exact List.mem_cons_self)
  subst e0 e1 e2 e3
  unfold wX_carry_71
  rw [ec]
  refine ⟨vp_in_nI (by omega) (by decide), nm_e (zb_carryBad fw sh sc sb fn uw ex aq ow gh gc gb fi fs fr hs hb I hL h ?_ ?_)⟩
  · obtain ⟨k, d, a⟩ := f
    exact zk_flip (zk_encSound (hb s) hk.1 d a) ht
  · rintro ⟨fw', sh', sc', sb', fn', uw', ex', aq', ow', gh', gc', gb', fi', fs', fr'⟩ h'
    exact hp _ h'
theorem zx_carryX {post : Int32 → SX → Prop} {W : Nat} {B T : Nat → Nat} {bf : Nat → Nat → Nat} {g : zg_S} {X : SX} {s : Nat} {p1 p2 : Int32} (hs : s < 2) (hb : ∀ t j, bf t j < 512) (I : zg_I W B T g) (h : zb_B W B T bf g X)
    (hp : ∀ g' X', zb_B W B T bf g' X' → zg_I W B T g' → post 0 X') : wpX_carry post X (nI s) p1 p2 := by
  obtain ⟨fw, sh, sc, sb, fn, uw, ex, aq, ow, gh, gc, gb, fi, fs, fr⟩ := X
  have hc : (nI s).toNatClampNeg = s := nI_clamp (by omega)
  have hi : vp_in (nI s) 2 := vp_in_nI hs (by decide)
  have r14' : fs s = nI (g.2.2.2 s).length := h.2.2.2.2.2.2.2.2.2.2.2.2.2.1 s hs
  have hl := (I.2.2 s hs).2.2.2.2.1
  have e16 : nI s * 16 = nI (s * 16) := by rw [show (16 : Int32) = nI 16 from rfl, pk_mul]
  have ec : (nI (s * 16)).toNatClampNeg = s * 16 := nI_clamp (by omega)
  unfold wpX_carry
  refine zr_okX hs (br_t rfl ⟨hi, ?_⟩)
  rw [hc, r14']
  refine pk_eq (g.2.2.2 s).length 0 (fun z => hp g _ h I) (fun z => ?_)
  rcases hL : g.2.2.2 s with _ | ⟨f, l⟩
  · rw [hL] at z
    exact absurd rfl z
  · have I2 := zg_I_dr I hs hL
    have I3 := zg_I_ar I hs hL
    have I4 := zg_I_dr I3 hs ((zg_ar_L hs).trans hL)
    have ef : fr (s * 16) = zk_enc (bf s) f := (h.2.2.2.2.2.2.2.2.2.2.2.2.2.2 s hs).2 0 f (by rw [hL]; rfl)
    refine br_c (fun _ => ?_) (fun _ => br_c (fun _ => ⟨by decide, nm_e ⟨?_, ?_⟩⟩) (fun _ => br_c (fun _ => ⟨?_, ?_⟩) (fun _ => ?_)))
    · refine zx_takeFrame fw sh sc sb fn uw ex aq ow gh gc gb fi fs fr h hs hL (fun j _ => rfl) ?_
      rintro ⟨fw', sh', sc', sb', fn', uw', ex', aq', ow', gh', gc', gb', fi', fs', fr'⟩ h'
      exact hp (zg_dr s l g) _ h' I2
    · rw [e16]
      exact vp_in_nI (by omega) (by decide)
    · rw [e16, ec, ef]
      refine br_c (fun y => ?_) (fun y => ?_)
      · obtain ⟨t, ht, et⟩ := (zx_at p2).1 y
        exact zx_flip71 fw sh sc sb fn uw ex aq ow gh gc gb fi fs fr hs hb I hL h ht et rfl rfl rfl (fun X' h' => hp _ X' h' I2)
      · obtain ⟨t, ht, et⟩ := (zx_at p2).2 y
        exact zx_flip71 fw sh sc sb fn uw ex aq ow gh gc gb fi fs fr hs hb I hL h ht et rfl rfl rfl (fun X' h' => hp _ X' h' I2)
    · rw [e16]
      exact vp_in_nI (by omega) (by decide)
    · rw [e16, ec, ef, zb_1s hs]
      refine zb_arr hs hb (zb_C_of hs I (by rw [hL]; exact List.mem_cons_self)) h ?_
      rintro ⟨fw', sh', sc', sb', fn', uw', ex', aq', ow', gh', gc', gb', fi', fs', fr'⟩ hK
      refine hK _ ?_
      rintro ⟨fw, sh, sc, sb, fn, uw, ex, aq, ow, gh, gc, gb, fi, fs, fr⟩ h''
      exact hp _ _ h'' I3
    · refine zb_carry hs hb I hL h ?_
      rintro ⟨fw', sh', sc', sb', fn', uw', ex', aq', ow', gh', gc', gb', fi', fs', fr'⟩ h'
      exact hp _ _ h' I4
theorem zx_fireX {post : Int32 → SX → Prop} {W : Nat} {B T : Nat → Nat} {bf : Nat → Nat → Nat} {g : zg_S} {X : SX} {s : Nat} (hs : s < 2) (hb : ∀ t j, bf t j < 512) (I : zg_I W B T g) (h : zb_B W B T bf g X)
    (hp : ∀ g' X', zb_B W B T bf g' X' → zg_I W B T g' → post 0 X') : wpX_fire post X (nI s) := by
  obtain ⟨fw, sh, sc, sb, fn, uw, ex, aq, ow, gh, gc, gb, fi, fs, fr⟩ := X
  obtain ⟨r1, r2, r3, r4, r5, r6, r7, r8, r9, r10, r11, r12, r13, r14, r15⟩ := h
  obtain ⟨A, E, q, L⟩ := g
  have hc : (nI s).toNatClampNeg = s := nI_clamp (by omega)
  have hi : vp_in (nI s) 2 := vp_in_nI hs (by decide)
  have I1 : zg_I W B T (A, E, zz_u q s false, L) := I
  unfold wpX_fire
  refine zr_okX hs (br_t rfl ⟨hi, ?_⟩)
  rw [hc]
  refine nm_e (zb_fl (g := (A, E, zz_u q s false, L)) hs hb I1 ?_ ?_)
  · exact ⟨r1, r2, r3, r4, r5, r6, r7, zc_bu false r8 rfl, r9, r10, r11, r12, r13, r14, r15⟩
  · rintro ⟨fw', sh', sc', sb', fn', uw', ex', aq', ow', gh', gc', gb', fi', fs', fr'⟩ h'
    exact hp _ _ h' (zg_I_fl I1 hs)
theorem zx_z {a : Nat → Int32} {f : Nat → Nat} (h0 : f 0 = 0) (h1 : f 1 = 0) : zc_a (upd (upd a 0 0) 1 0) f := by
  refine zp_cases (s := 0) (by decide) ?_ ?_
  · rw [pk_un (by decide), pk_us, h0]
    rfl
  · show upd _ 1 0 1 = nI (f 1)
    rw [pk_us, h1]
    rfl
theorem zx_zb {a : Nat → Int32} : zc_b (upd (upd a 0 (vp_nar .boolean 0)) 1 (vp_nar .boolean 0)) (fun _ => false) := by
  refine zp_cases (s := 0) (by decide) ?_ ?_
  · rw [pk_un (by decide), pk_us]
    rfl
  · show upd _ 1 _ 1 = _
    rw [pk_us]
    rfl
def zr_g0 : zg_S := (fun _ => 0, fun _ => 0, fun _ => false, fun _ => [])
theorem zr_I0 {W : Nat} (w1 : 1 ≤ W) (w2 : W ≤ 4) : zg_I W (fun _ => 0) (fun _ => 0) zr_g0 := by
  refine ⟨w1, w2, fun s _ => ⟨Nat.le_refl _, Nat.le_refl _, Nat.zero_le _, Nat.zero_le _, Nat.zero_le _, fun f hf => absurd hf (by simp [zr_g0]), List.Pairwise.nil⟩⟩
theorem zx_resetX {post : SX → Prop} {W : Nat} {B T : Nat → Nat} {bf : Nat → Nat → Nat} {g : zg_S} {X : SX} (h : zb_B W B T bf g X)
    (hp : ∀ X', zb_B W (fun _ => 0) (fun _ => 0) bf zr_g0 X' → post X') : wpX_reset post X := by
  obtain ⟨fw, sh, sc, sb, fn, uw, ex, aq, ow, gh, gc, gb, fi, fs, fr⟩ := X
  obtain ⟨r1, r2, r3, r4, r5, r6, r7, r8, r9, r10, r11, r12, r13, r14, r15⟩ := h
  have v0 : vp_in 0 2 := vp_in_nI (n := 0) (by decide) (by decide)
  have v1 : vp_in 1 2 := vp_in_nI (n := 1) (by decide) (by decide)
  have c0 : (0 : Int32).toNatClampNeg = 0 := by decide
  have c1 : (1 : Int32).toNatClampNeg = 1 := by decide
  have d0 : (0 : Int32) + 1 = 1 := by decide
  have d1 : (1 : Int32) + 1 = 2 := by decide
  unfold wpX_reset
  refine ⟨3, ?_⟩
  unfold wX_reset_2
  simp only [c0]
  refine br_f (by decide) ⟨v0, nm_e ⟨v0, nm_e ⟨v0, nm_e ⟨v0, nm_e ⟨v0, nm_e ⟨v0, nm_e ⟨v0, nm_e ⟨v0, nm_e ⟨v0, nm_e ⟨v0, nm_e ⟨v0, nm_e (nm_r d0 ?_)⟩⟩⟩⟩⟩⟩⟩⟩⟩⟩⟩
  unfold wX_reset_2
  simp only [c1]
  refine br_f (by decide) ⟨v1, nm_e ⟨v1, nm_e ⟨v1, nm_e ⟨v1, nm_e ⟨v1, nm_e ⟨v1, nm_e ⟨v1, nm_e ⟨v1, nm_e ⟨v1, nm_e ⟨v1, nm_e ⟨v1, nm_e (nm_r d1 ?_)⟩⟩⟩⟩⟩⟩⟩⟩⟩⟩⟩
  unfold wX_reset_2
  refine br_t (by decide) (hp _ ?_)
  have ew : zm_wn W 0 0 = 0 := by unfold zm_wn; omega
  refine ⟨r1, zx_z rfl rfl, zx_z rfl rfl, fun s _ j _ hj => absurd hj (Nat.not_lt_zero j), zx_z rfl rfl, zx_z ew ew, zx_z rfl rfl, zx_zb, zx_zb, zx_z rfl rfl, zx_z rfl rfl, fun s _ j _ hj => absurd hj (Nat.not_lt_zero j), zx_z rfl rfl, zx_z rfl rfl, ?_⟩
  intro s _
  exact ⟨Nat.zero_le _, fun i f hf => absurd hf (by simp [zr_g0])⟩
end
section
/-! the reference's calls -/
theorem zr_room {W : Nat} {B T : Nat → Nat} {g : zg_S} (I : zg_I W B T g) : ∀ t, t < 2 → B (1 - t) ≤ T t + 30 := by
  intro t ht
  obtain ⟨z1, z2, z3⟩ := zp_2 ht
  have := (I.2.2 (1 - t) z1).2.2.2.1
  rw [z2] at this
  exact this
theorem zr_TB {W : Nat} {B T : Nat → Nat} {g : zg_S} (I : zg_I W B T g) : ∀ t, t < 2 → T t ≤ B (1 - t) := by
  intro t ht
  obtain ⟨z1, z2, z3⟩ := zp_2 ht
  obtain ⟨c1, c2, c3, _⟩ := I.2.2 (1 - t) z1
  rw [z2] at c1 c2 c3
  omega
theorem zs_le {f : Nat → Nat} (hf : ∀ j, f j ≤ 1) : ∀ m i, zs_s f i m ≤ m := by
  intro m
  induction m with
  | zero => intro i; exact Nat.le_refl _
  | succ m ih =>
    intro i
    have h1 := ih (i + 1)
    have h2 := hf i
    show f i + zs_s f (i + 1) m ≤ m + 1
    omega
theorem zy_take {post : Int32 → SY → Prop} {B T : Nat → Nat} {bf : Nat → Nat → Nat} {v : SY} {s : Nat} (hs : s < 2) (hb : ∀ t j, bf t j < 512) (hY : zr_Y B T bf v) (hB : ∀ t, t < 2 → B (1 - t) ≤ T t + 30) (h0 : B (1 - s) - T s = 0 → post (-3) v)
    (h1 : B (1 - s) - T s ≠ 0 → ∀ v', zr_Y B (zz_u T s (T s + 1)) bf v' → post (nI (bf (1 - s) (T s) % 256)) v') : wpY_take post v (nI s) := by
  obtain ⟨yb, ym, yc, yg⟩ := v
  have hY0 := hY
  obtain ⟨y1, y2, y3⟩ := hY
  have hBs := hB s hs
  have hc : (nI s).toNatClampNeg = s := nI_clamp (by omega)
  have hi : vp_in (nI s) 2 := vp_in_nI hs (by decide)
  have e30 : nI s * 30 = nI (s * 30) := by rw [show (30 : Int32) = nI 30 from rfl, pk_mul]
  have ec : (nI (s * 30)).toNatClampNeg = s * 30 := nI_clamp (by omega)
  have y1' : yc s = nI (B (1 - s) - T s) := y1 s hs
  unfold wpY_take
  refine zr_okY hs (br_t rfl ⟨hi, ?_⟩)
  rw [hc, y1']
  refine pk_eq (B (1 - s) - T s) 0 h0 (fun z => ⟨?_, ?_⟩)
  · rw [e30]
    exact vp_in_nI (by omega) (by decide)
  · rw [e30, ec]
    refine nm_r ((y3 s hs 0 (by omega)).1) (zy_off (n := 1) hs hb hY0 (by omega) hB ?_)
    rintro ⟨yb', ym', yc', yg'⟩ h'
    exact h1 z _ h'
theorem zy_skip {post : Int32 → SY → Prop} {B T : Nat → Nat} {bf : Nat → Nat → Nat} {v : SY} {s : Nat} (hs : s < 2) (hb : ∀ t j, bf t j < 512) (hY : zr_Y B T bf v) (hB : ∀ t, t < 2 → B (1 - t) ≤ T t + 30) (hT : T s ≤ B (1 - s))
    (h1 : ∀ v', zr_Y B (zz_u T s (T s + (B (1 - s) - T s))) bf v' → post (nI (B (1 - s) - T s)) v') : wpY_skip post v (nI s) := by
  obtain ⟨yb, ym, yc, yg⟩ := v
  have hY0 := hY
  obtain ⟨y1, y2, y3⟩ := hY
  have hc : (nI s).toNatClampNeg = s := nI_clamp (by omega)
  have hi : vp_in (nI s) 2 := vp_in_nI hs (by decide)
  have y1' : yc s = nI (B (1 - s) - T s) := y1 s hs
  unfold wpY_skip
  refine zr_okY hs (br_t rfl ⟨hi, ?_⟩)
  rw [hc, y1']
  refine nm_e (zy_off hs hb hY0 (by omega) hB ?_)
  rintro ⟨yb', ym', yc', yg'⟩ h'
  exact h1 _ h'
theorem zy_tm {post : Int32 → SY → Prop} {B T : Nat → Nat} {bf : Nat → Nat → Nat} {v : SY} {s : Nat} (hs : s < 2) (hb : ∀ t j, bf t j < 512) (hY : zr_Y B T bf v) (hB : ∀ t, t < 2 → B (1 - t) ≤ T t + 30)
    (h0 : (∀ j, j < B (1 - s) - T s → bf (1 - s) (T s + j) / 256 = 0) → post (-3) v)
    (hq : ∀ p, p < B (1 - s) - T s → bf (1 - s) (T s + p) / 256 ≠ 0 → (∀ j, j < p → bf (1 - s) (T s + j) / 256 = 0) → ∀ v', zr_Y B (zz_u T s (T s + (p + 1))) bf v' → post (nI (p + 1)) v') : wpY_takeMessage post v (nI s) := by
  obtain ⟨yb, ym, yc, yg⟩ := v
  unfold wpY_takeMessage
  exact zr_okY hs (br_t rfl ⟨B (1 - s) - T s + 1, zy_find0 hs hb hY hB h0 hq (B (1 - s) - T s) _ 0 (by omega) (by omega) (fun j hj => by omega)⟩)
theorem zy_msgs {post : Int32 → Prop} {B T : Nat → Nat} {bf : Nat → Nat → Nat} {v : SY} {s : Nat} (hs : s < 2) (hb : ∀ t j, bf t j < 512) (hY : zr_Y B T bf v) (hB : ∀ t, t < 2 → B (1 - t) ≤ T t + 30) (hp : post (nI (0 + zs_s (fun i => bf (1 - s) (T s + i) / 256) 0 (B (1 - s) - T s)))) : wpY_messages post v (nI s) := by
  obtain ⟨yb, ym, yc, yg⟩ := v
  unfold wpY_messages
  exact zr_okY hs (br_t rfl ⟨B (1 - s) - T s + 1, zy_msgs0 hs hb hY (hB s hs) (B (1 - s) - T s) _ 0 0 (by omega) (by omega) hp⟩)
theorem zy_sum {post : Int32 → Prop} {B T : Nat → Nat} {bf : Nat → Nat → Nat} {v : SY} {s : Nat} (hs : s < 2) (hY : zr_Y B T bf v) (hB : ∀ t, t < 2 → B (1 - t) ≤ T t + 30) (hp : post (nI (0 + zs_s (fun i => bf (1 - s) (T s + i) % 256) 0 (B (1 - s) - T s)))) : wpY_sum post v (nI s) := by
  obtain ⟨yb, ym, yc, yg⟩ := v
  unfold wpY_sum
  exact zr_okY hs (br_t rfl ⟨B (1 - s) - T s + 1, zy_sum0 hs hY (hB s hs) (B (1 - s) - T s) _ 0 0 (by omega) (by omega) hp⟩)
theorem zy_waiting {post : Int32 → Prop} {B T : Nat → Nat} {bf : Nat → Nat → Nat} {v : SY} {s : Nat} (hs : s < 2) (hY : zr_Y B T bf v) (hp : post (nI (B (1 - s) - T s))) : wpY_waiting post v (nI s) := by
  obtain ⟨yb, ym, yc, yg⟩ := v
  obtain ⟨y1, y2, y3⟩ := hY
  have hc : (nI s).toNatClampNeg = s := nI_clamp (by omega)
  have hi : vp_in (nI s) 2 := vp_in_nI hs (by decide)
  have y1' : yc s = nI (B (1 - s) - T s) := y1 s hs
  unfold wpY_waiting
  refine zr_okY hs (br_t rfl ⟨hi, ?_⟩)
  rw [hc, y1']
  exact hp
theorem zy_done {post : Int32 → Prop} {B T : Nat → Nat} {bf : Nat → Nat → Nat} {v : SY} {s : Nat} (hs : s < 2) (hY : zr_Y B T bf v) (hp : post (nI (T s))) : wpY_done post v (nI s) := by
  obtain ⟨yb, ym, yc, yg⟩ := v
  obtain ⟨y1, y2, y3⟩ := hY
  have hc : (nI s).toNatClampNeg = s := nI_clamp (by omega)
  have hi : vp_in (nI s) 2 := vp_in_nI hs (by decide)
  have y2' : yg s = nI (T s) := y2 s hs
  unfold wpY_done
  refine zr_okY hs (br_t rfl ⟨hi, ?_⟩)
  rw [hc, y2']
  exact hp
theorem zy_peek {post : Int32 → Prop} {B T : Nat → Nat} {bf : Nat → Nat → Nat} {v : SY} {s i : Nat} (hs : s < 2) (hi31 : i < 2 ^ 31) (hY : zr_Y B T bf v) (hB : ∀ t, t < 2 → B (1 - t) ≤ T t + 30) (h0 : B (1 - s) - T s ≤ i → post (-3)) (h1 : i < B (1 - s) - T s → post (nI (bf (1 - s) (T s + i) % 256))) : wpY_peek post v (nI s) (nI i) := by
  obtain ⟨yb, ym, yc, yg⟩ := v
  obtain ⟨y1, y2, y3⟩ := hY
  have hBs := hB s hs
  have hc : (nI s).toNatClampNeg = s := nI_clamp (by omega)
  have hi : vp_in (nI s) 2 := vp_in_nI hs (by decide)
  have y1' : yc s = nI (B (1 - s) - T s) := y1 s hs
  unfold wpY_peek
  refine zr_okY hs (br_t rfl (br_f (nI_pos hi31) ⟨hi, ?_⟩))
  rw [hc, y1', zx_30]
  refine pk_lt i (B (1 - s) - T s) (fun z => ⟨vp_in_nI (by omega) (by decide), ?_⟩) h0
  rw [nI_clamp (by omega), (y3 s hs i (by omega)).1]
  exact h1 z
theorem zy_ends {post : Int32 → Prop} {B T : Nat → Nat} {bf : Nat → Nat → Nat} {v : SY} {s i : Nat} (hs : s < 2) (hb : ∀ t j, bf t j < 512) (hi31 : i < 2 ^ 31) (hY : zr_Y B T bf v) (hB : ∀ t, t < 2 → B (1 - t) ≤ T t + 30) (h0 : B (1 - s) - T s ≤ i → post 0) (h1 : i < B (1 - s) - T s → bf (1 - s) (T s + i) ≤ 255 → post 0) (h2 : i < B (1 - s) - T s → 255 < bf (1 - s) (T s + i) → post 1) : wpY_ends post v (nI s) (nI i) := by
  obtain ⟨yb, ym, yc, yg⟩ := v
  obtain ⟨y1, y2, y3⟩ := hY
  have hBs := hB s hs
  have hv := hb (1 - s) (T s + i)
  have hc : (nI s).toNatClampNeg = s := nI_clamp (by omega)
  have hi : vp_in (nI s) 2 := vp_in_nI hs (by decide)
  have y1' : yc s = nI (B (1 - s) - T s) := y1 s hs
  unfold wpY_ends
  refine zr_okY hs (br_t rfl (br_f (nI_pos hi31) ⟨hi, ?_⟩))
  rw [hc, y1', zx_30]
  refine pk_le (B (1 - s) - T s) i h0 (fun z => ⟨vp_in_nI (by omega) (by decide), ?_⟩)
  rw [nI_clamp (by omega), (y3 s hs i (by omega)).2]
  exact pk_eq (bf (1 - s) (T s + i) / 256) 0 (fun y => h1 z (by omega)) (fun y => h2 z (by omega))
theorem zy_give {post : Int32 → SY → Prop} {B T : Nat → Nat} {bf : Nat → Nat → Nat} {v : SY} {s b e : Nat} (hs : s < 2) (hbb : b < 256) (he : e < 2) (hY : zr_Y B T bf v) (hB : ∀ t, t < 2 → B (1 - t) ≤ T t + 30) (hT : T (1 - s) ≤ B s) (h0 : ¬ B s - T (1 - s) < 30 → post (-2) v)
    (h1 : B s - T (1 - s) < 30 → ∀ v', zr_Y (zz_u B s (B s + 1)) T (zz_b bf s (B s) (b + 256 * e)) v' → post (nI (B s - T (1 - s) + 1)) v') : wpY_give post v (nI s) (nI b) (nI e) := by
  obtain ⟨yb, ym, yc, yg⟩ := v
  obtain ⟨y1, y2, y3⟩ := hY
  obtain ⟨z1, z2, z3⟩ := zp_2 hs
  have hBr := hB (1 - s) z1
  have hBs := hB s hs
  rw [z2] at hBr
  have hc : (nI (1 - s)).toNatClampNeg = 1 - s := nI_clamp (by omega)
  have hi : vp_in (nI (1 - s)) 2 := vp_in_nI z1 (by decide)
  have y1' : yc (1 - s) = nI (B s - T (1 - s)) := by
    have e : yc (1 - s) = nI (B (1 - (1 - s)) - T (1 - s)) := y1 (1 - s) z1
    rw [e, z2]
  have ec : (nI ((1 - s) * 30 + (B s - T (1 - s)))).toNatClampNeg = (1 - s) * 30 + (B s - T (1 - s)) := nI_clamp (by omega)
  unfold wpY_give
  refine zr_okY hs (br_t rfl (br_f (nI_pos (by omega)) (br_t (nI_le (b := 255) (by omega) (by decide)) (nm_r (zb_1s hs) ⟨hi, ?_⟩))))
  rw [hc, y1', zx_30, ec]
  refine pk_eq (B s - T (1 - s)) 30 (fun z => h0 (by omega)) (fun z => ?_)
  have hv : vp_in (nI ((1 - s) * 30 + (B s - T (1 - s)))) 60 := vp_in_nI (by omega) (by decide)
  refine ⟨hi, hv, nm_e ⟨hi, hv, nm_r (congrArg (upd ym _) (zy_nar he)) ⟨hi, hi, nm_e ⟨hi, ?_⟩⟩⟩⟩
  rw [pk_us, nI_1]
  refine h1 (by omega) _ ⟨?_, y2, ?_⟩
  · intro t ht
    show _ = nI (zz_u B s (B s + 1) (1 - t) - T t)
    by_cases et : t = 1 - s
    · rw [et, pk_us, z2, zz_us]
      have : B s - T (1 - s) + 1 = B s + 1 - T (1 - s) := by omega
      rw [this]
    · have e2 : 1 - t ≠ s := by omega
      rw [pk_un et, zz_un e2]
      exact y1 t ht
  · intro t ht i hti
    by_cases et : t = 1 - s
    · subst et
      rw [z2] at hti ⊢
      rw [zz_us] at hti
      have y3' := y3 (1 - s) ht i
      rw [z2] at y3'
      by_cases ei : i = B s - T (1 - s)
      · have e3 : T (1 - s) + i = B s := by omega
        have e4 : zz_b bf s (B s) (b + 256 * e) s (B s) = b + 256 * e := if_pos ⟨rfl, rfl⟩
        have e5 : (b + 256 * e) % 256 = b := by omega
        have e6 : (b + 256 * e) / 256 = e := by omega
        rw [e3, e4, e5, e6, ei, pk_us, pk_us]
        exact ⟨rfl, rfl⟩
      · have e4 : zz_b bf s (B s) (b + 256 * e) s (T (1 - s) + i) = bf s (T (1 - s) + i) := if_neg (fun y => by omega)
        rw [e4, pk_un (by omega), pk_un (by omega)]
        exact y3' (by omega)
    · have e2 : 1 - t ≠ s := by omega
      have hBt := hB t ht
      rw [zz_un e2] at hti
      have e4 : zz_b bf s (B s) (b + 256 * e) (1 - t) (T t + i) = bf (1 - t) (T t + i) := if_neg (fun y => e2 y.1)
      rw [e4, pk_un (by omega), pk_un (by omega)]
      exact y3 t ht i hti
end
section
/-- the relation: both sides over the same ghosts -/
def i_Rel (_ : Nat) (u : SX) (v : SY) : Prop := ∃ (W : Nat) (B T : Nat → Nat) (bf : Nat → Nat → Nat) (g : zg_S), (∀ t j, bf t j < 512) ∧ zg_I W B T g ∧ zb_B W B T bf g u ∧ zr_Y B T bf v
theorem i_up {k : Nat} {u : SX} {v : SY} (h : i_Rel k u v) : i_Rel (k + 4) u v := h
theorem zr_init {W : Nat} (w1 : 1 ≤ W) (w2 : W ≤ 4) : i_Rel 1 (nI W, (fun _ => 0), (fun _ => 0), (fun _ => 0), (fun _ => 0), (fun _ => 0), (fun _ => 0), (fun _ => 0), (fun _ => 0), (fun _ => 0), (fun _ => 0), (fun _ => 0), (fun _ => 0), (fun _ => 0), (fun _ => 0)) ((fun _ => 0), (fun _ => 0), (fun _ => 0), (fun _ => 0)) := by
  have ew : zm_wn W 0 0 = 0 := by unfold zm_wn; omega
  refine ⟨W, fun _ => 0, fun _ => 0, fun _ _ => 0, zr_g0, fun _ _ => (by decide : 0 < 512), zr_I0 w1 w2, ?_, ?_⟩
  · refine ⟨rfl, fun _ _ => rfl, fun _ _ => rfl, fun s _ j _ hj => absurd hj (Nat.not_lt_zero j), fun _ _ => rfl, fun _ _ => ?_, fun _ _ => rfl, fun _ _ => rfl, fun _ _ => rfl, fun _ _ => rfl, fun _ _ => rfl, fun s _ j _ hj => absurd hj (Nat.not_lt_zero j), fun _ _ => rfl, fun _ _ => rfl, ?_⟩
    · show 0 = nI (zm_wn W 0 0)
      rw [ew]
      rfl
    · intro s _
      exact ⟨Nat.zero_le _, fun i f hf => absurd hf (by simp [zr_g0])⟩
  · exact ⟨fun _ _ => rfl, fun _ _ => rfl, fun r _ i hi => absurd hi (Nat.not_lt_zero _)⟩
theorem i_vc0 (k0 : Int32) : wpX_init (fun u => wpY_init (fun v => i_Rel 1 u v) k0) k0 := by
  refine br_c (fun h => br_c (fun h2 => ?_) (fun _ => zr_init (W := 4) (by decide) (by decide))) (fun _ => br_t (by decide) (zr_init (W := 1) (by decide) (by decide)))
  have h0 : ¬ k0 < 0 := fun z => by
    have := Int32.lt_of_le_of_lt h z
    exact absurd this (by decide)
  obtain ⟨j, hj, rfl⟩ := nI_of2 (x := k0) (M := 4) (n := 4) (by decide) h0 h2
  have hj1 : 1 ≤ j := (nI_leI (a := 1) (by decide) (by omega)).mp h
  exact zr_init hj1 hj
theorem i_vc_give {k : Nat} {u : SX} {v : SY} (I : i_Rel k u v) (hk : k + 4 ≤ 2049) (v1 : Int32) (v2 : Int32) (v3 : Int32) : wpX_give (fun r u' => wpY_give (fun r' v' => r' = r ∧ i_Rel (k + 4) u' v') v v1 v2 (lw_bz v3)) u v1 v2 (lw_bz v3) := by
  have I0 : i_Rel (k + 4) u v := I
  obtain ⟨W, B, T, bf, g, hb, Ig, hX, hY⟩ := I
  obtain ⟨fw, sh, sc, sb, fn, uw, ex, aq, ow, gh, gc, gb, fi, fs, fr⟩ := u
  rcases zr_st v1 with ⟨s, hs, rfl⟩ | ⟨bX, bY⟩
  · obtain ⟨z1, z2, z3⟩ := zp_2 hs
    unfold wpX_give
    refine zr_okX hs (br_t rfl ?_)
    rcases pk_ix v2 (n := 256) (by decide) with h | h | ⟨b, hbb, rfl⟩
    · obtain ⟨yb, ym, yc, yg⟩ := v
      unfold wpY_give
      exact br_t h (zr_okY hs (br_t rfl (br_t h ⟨rfl, I0⟩)))
    · have h1 : ¬ v2 < 0 := fun z => by
        have := Int32.lt_of_le_of_lt h z
        exact absurd this (by decide)
      have h2 : ¬ v2 ≤ 255 := fun z => by
        have := Int32.le_trans h z
        exact absurd this (by decide)
      obtain ⟨yb, ym, yc, yg⟩ := v
      unfold wpY_give
      exact br_f h1 (br_f h2 (zr_okY hs (br_t rfl (br_f h1 (br_f h2 ⟨rfl, I0⟩)))))
    · have hc : (nI s).toNatClampNeg = s := nI_clamp (by omega)
      have hi : vp_in (nI s) 2 := vp_in_nI hs (by decide)
      have hB := zr_room Ig
      have hT : T (1 - s) ≤ B s := by
        have := zr_TB Ig (1 - s) z1
        rw [z2] at this
        exact this
      have hAs := Ig.2.2 s hs
      obtain ⟨c1, c2, c3, c4, _⟩ := hAs
      have r2' : sh s = nI (g.1 s % 32) := hX.2.1 s hs
      have r3' : sc s = nI (B s - g.1 s) := hX.2.2.1 s hs
      have ei : nI s * 32 + ((sh s + sc s) &&& 31) = nI (s * 32 + B s % 32) := by
        have e : g.1 s + (B s - g.1 s) = B s := by omega
        rw [r2', r3', zx_m32 (by omega), e, zx_32]
      have e0 : nI b = nI (b + 256 * 0) := rfl
      have e1 : nI b ||| 256 = nI (b + 256 * 1) := by
        show nI b ||| nI 256 = _
        have e2 : b ||| 256 = b + 256 * 1 := by
          rw [Nat.or_comm, show (256 : Nat) = 2 ^ 8 * 1 from rfl, ← Nat.two_pow_add_eq_or_of_lt (i := 8) hbb]
          omega
        rw [zk_or, e2]
      refine br_f (nI_pos (by omega)) (br_t (nI_le (b := 255) (by omega) (by decide)) (zx_waits hs Ig hX ?_))
      refine pk_lt (B s - T (1 - s)) 30 (fun hlt => ⟨hi, hi, ?_⟩) (fun hge => ?_)
      · rw [hc, ei]
        rcases lw_bz_01 v3 with hz | hz
        · rw [hz]
          refine br_t rfl (zx_give78 fw sh sc sb fn uw ex aq ow gh gc gb fi fs fr (v := b + 256 * 0) hs hb Ig hX (by omega) (by omega) e0 rfl ?_)
          rintro g' ⟨fw', sh', sc', sb', fn', uw', ex', aq', ow', gh', gc', gb', fi', fs', fr'⟩ hX' Ig'
          refine zy_give (e := 0) hs hbb (by decide) hY hB hT (fun z => absurd hlt z) (fun _ v' hv' => ⟨(nI_1 _).symm, ?_⟩)
          exact ⟨W, _, T, _, g', zz_b_lt hb (by omega), Ig', hX', hv'⟩
        · rw [hz]
          refine br_f (by decide) (zx_give78 fw sh sc sb fn uw ex aq ow gh gc gb fi fs fr (v := b + 256 * 1) hs hb Ig hX (by omega) (by omega) e1 rfl ?_)
          rintro g' ⟨fw', sh', sc', sb', fn', uw', ex', aq', ow', gh', gc', gb', fi', fs', fr'⟩ hX' Ig'
          refine zy_give (e := 1) hs hbb (by decide) hY hB hT (fun z => absurd hlt z) (fun _ v' hv' => ⟨(nI_1 _).symm, ?_⟩)
          exact ⟨W, _, T, _, g', zz_b_lt hb (by omega), Ig', hX', hv'⟩
      · rcases lw_bz_01 v3 with hz | hz
        · rw [hz]
          exact zy_give (e := 0) hs hbb (by decide) hY hB hT (fun _ => ⟨rfl, I0⟩) (fun z => by omega)
        · rw [hz]
          exact zy_give (e := 1) hs hbb (by decide) hY hB hT (fun _ => ⟨rfl, I0⟩) (fun z => by omega)
  · obtain ⟨yb, ym, yc, yg⟩ := v
    unfold wpX_give wpY_give
    exact bX _ (br_f (by decide) (bY _ _ (br_f (by decide) ⟨rfl, I0⟩)))
theorem i_vc_take {k : Nat} {u : SX} {v : SY} (I : i_Rel k u v) (hk : k + 4 ≤ 2049) (v1 : Int32) : wpX_take (fun r u' => wpY_take (fun r' v' => r' = r ∧ i_Rel (k + 4) u' v') v v1) u v1 := by
  have I0 : i_Rel (k + 4) u v := I
  obtain ⟨W, B, T, bf, g, hb, Ig, hX, hY⟩ := I
  obtain ⟨fw, sh, sc, sb, fn, uw, ex, aq, ow, gh, gc, gb, fi, fs, fr⟩ := u
  rcases zr_st v1 with ⟨s, hs, rfl⟩ | ⟨bX, bY⟩
  · have hB := zr_room Ig
    have hBs := hB s hs
    unfold wpX_take
    refine zr_okX hs (br_t rfl (zx_wait hs hb Ig hX ?_))
    rintro g' ⟨fw', sh', sc', sb', fn', uw', ex', aq', ow', gh', gc', gb', fi', fs', fr'⟩ hX' Ig' S
    refine pk_eq (B (1 - s) - T s) 0 (fun z => ?_) (fun z => ?_)
    · exact zy_take hs hb hY hB (fun _ => ⟨rfl, W, B, T, bf, g', hb, Ig', hX', hY⟩) (fun y => absurd z y)
    · refine zx_takeOne hX' hs (by rw [(S s hs).2]; omega) ?_
      rintro ⟨fw, sh, sc, sb, fn, uw, ex, aq, ow, gh, gc, gb, fi, fs, fr⟩ h'
      refine zy_take hs hb hY hB (fun y => absurd y z) (fun _ v' hv' => ⟨?_, W, B, zz_u T s (T s + 1), bf, g', hb, zr_I_T hs Ig' S (by omega), h', hv'⟩)
      have hv := hb (1 - s) (T s)
      rw [zk_andP (p := 256) (by omega) 8 (by decide) (by decide)]
  · obtain ⟨yb, ym, yc, yg⟩ := v
    unfold wpX_take wpY_take
    exact bX _ (br_f (by decide) (bY _ _ (br_f (by decide) ⟨rfl, I0⟩)))
theorem i_vc_takeMessage {k : Nat} {u : SX} {v : SY} (I : i_Rel k u v) (hk : k + 4 ≤ 2049) (v1 : Int32) : wpX_takeMessage (fun r u' => wpY_takeMessage (fun r' v' => r' = r ∧ i_Rel (k + 4) u' v') v v1) u v1 := by
  have I0 : i_Rel (k + 4) u v := I
  obtain ⟨W, B, T, bf, g, hb, Ig, hX, hY⟩ := I
  obtain ⟨fw, sh, sc, sb, fn, uw, ex, aq, ow, gh, gc, gb, fi, fs, fr⟩ := u
  rcases zr_st v1 with ⟨s, hs, rfl⟩ | ⟨bX, bY⟩
  · have hB := zr_room Ig
    have hBs := hB s hs
    have hTs := zr_TB Ig s hs
    unfold wpX_takeMessage
    refine zr_okX hs (br_t rfl (zb_settle hb Ig hX ?_))
    rintro g' ⟨fw', sh', sc', sb', fn', uw', ex', aq', ow', gh', gc', gb', fi', fs', fr'⟩ hX' Ig' hm
    have S := zr_S_of Ig' hm
    have eE := (S s hs).2
    refine ⟨B (1 - s) - T s + 1, zx_marked0 _ _ _ _ _ _ _ _ _ _ _ _ _ _ _ hX' hs hb (by omega) (B (1 - s) - T s) _ 0 0 (by omega) (by omega) ?_⟩
    rw [Nat.zero_add]
    have hle : zs_s (fun i => bf (1 - s) (T s + i) / 256) 0 (B (1 - s) - T s) ≤ B (1 - s) - T s := zs_le (fun j => by have := hb (1 - s) (T s + j); omega) _ _
    refine pk_eq (zs_s (fun i => bf (1 - s) (T s + i) / 256) 0 (B (1 - s) - T s)) 0 (fun z => ?_) (fun z => ?_)
    · have hz := zs_0 _ _ _ z
      refine zy_tm hs hb hY hB (fun _ => ⟨rfl, W, B, T, bf, g', hb, Ig', hX', hY⟩) (fun p hp hne => absurd ?_ hne)
      have := hz p hp
      rw [Nat.zero_add] at this
      exact this
    · obtain ⟨p, hp, hne, hz⟩ := zs_p _ _ _ z
      rw [Nat.zero_add] at hne
      have hz' : ∀ j, j < p → bf (1 - s) (T s + j) / 256 = 0 := fun j hj => by
        have := hz j hj
        rw [Nat.zero_add] at this
        exact this
      refine zx_takeOne hX' hs (by omega) ?_
      rintro ⟨fw, sh, sc, sb, fn, uw, ex, aq, ow, gh, gc, gb, fi, fs, fr⟩ h'
      refine ⟨p + 1, zx_msg0 (t0 := T s) hs hb (by omega) (by omega) hne hz' p (p + 1) 0 _ _ _ _ _ _ _ _ _ _ _ _ _ _ _ _ h' (by rw [zz_us]) (by omega) (by omega) ?_⟩
      intro X' h''
      rw [zz_uu] at h''
      refine zy_tm hs hb hY hB (fun y => absurd (y p hp) hne) (fun p' hp' hne' hz'' v' hv' => ?_)
      have e : p' = p := by
        rcases Nat.lt_trichotomy p' p with y | y | y
        · exact absurd (hz' p' y) hne'
        · exact y
        · exact absurd (hz'' p y) hne
      subst e
      exact ⟨rfl, W, B, zz_u T s (T s + (p' + 1)), bf, g', hb, zr_I_T hs Ig' S (by omega), h'', hv'⟩
  · obtain ⟨yb, ym, yc, yg⟩ := v
    unfold wpX_takeMessage wpY_takeMessage
    exact bX _ (br_f (by decide) (bY _ _ (br_f (by decide) ⟨rfl, I0⟩)))
theorem i_vc_skip {k : Nat} {u : SX} {v : SY} (I : i_Rel k u v) (hk : k + 4 ≤ 2049) (v1 : Int32) : wpX_skip (fun r u' => wpY_skip (fun r' v' => r' = r ∧ i_Rel (k + 4) u' v') v v1) u v1 := by
  have I0 : i_Rel (k + 4) u v := I
  obtain ⟨W, B, T, bf, g, hb, Ig, hX, hY⟩ := I
  obtain ⟨fw, sh, sc, sb, fn, uw, ex, aq, ow, gh, gc, gb, fi, fs, fr⟩ := u
  rcases zr_st v1 with ⟨s, hs, rfl⟩ | ⟨bX, bY⟩
  · have hB := zr_room Ig
    have hBs := hB s hs
    have hTs := zr_TB Ig s hs
    unfold wpX_skip
    refine zr_okX hs (br_t rfl (zx_wait hs hb Ig hX ?_))
    rintro g' ⟨fw', sh', sc', sb', fn', uw', ex', aq', ow', gh', gc', gb', fi', fs', fr'⟩ hX' Ig' S
    have eE := (S s hs).2
    refine ⟨B (1 - s) - T s + 1, zx_skip0 hs (by omega) (B (1 - s) - T s) _ 0 T _ _ _ _ _ _ _ _ _ _ _ _ _ _ _ hX' (by omega) (by omega) (by omega) ?_⟩
    intro X' h'
    exact zy_skip hs hb hY hB hTs (fun v' hv' => ⟨rfl, W, B, _, bf, g', hb, zr_I_T hs Ig' S (by omega), h', hv'⟩)
  · obtain ⟨yb, ym, yc, yg⟩ := v
    unfold wpX_skip wpY_skip
    exact bX _ (br_f (by decide) (bY _ _ (br_f (by decide) ⟨rfl, I0⟩)))
theorem i_vc_reset {k : Nat} {u : SX} {v : SY} (I : i_Rel k u v) (hk : k + 4 ≤ 2049) : wpX_reset (fun u' => wpY_reset (fun v' => i_Rel (k + 4) u' v') v) u := by
  obtain ⟨W, B, T, bf, g, hb, Ig, hX, hY⟩ := I
  obtain ⟨yb, ym, yc, yg⟩ := v
  refine zx_resetX hX (fun X' h' => ?_)
  exact nm_e (nm_e (nm_e (nm_e ⟨W, _, _, bf, zr_g0, hb, zr_I0 Ig.1 Ig.2.1, h', zx_z rfl rfl, zx_z rfl rfl, fun r _ i hi => absurd hi (Nat.not_lt_zero _)⟩)))
theorem i_vc_carry {k : Nat} {u : SX} {v : SY} (I : i_Rel k u v) (hk : k + 4 ≤ 2049) (v1 : Int32) (v2 : Int32) (v3 : Int32) : wpX_carry (fun r u' => wpY_carry (fun r' => r' = r ∧ i_Rel (k + 4) u' v) v v1 v2 v3) u v1 v2 v3 := by
  have I0 : i_Rel (k + 4) u v := I
  obtain ⟨W, B, T, bf, g, hb, Ig, hX, hY⟩ := I
  rcases zr_st v1 with ⟨s, hs, rfl⟩ | ⟨bX, bY⟩
  · refine zx_carryX hs hb Ig hX (fun g' X' hX' Ig' => ?_)
    have R : i_Rel (k + 4) X' v := ⟨W, B, T, bf, g', hb, Ig', hX', hY⟩
    obtain ⟨yb, ym, yc, yg⟩ := v
    show wpY_carry _ _ _ _ _
    unfold wpY_carry
    exact zr_okY hs (br_t rfl ⟨rfl, R⟩)
  · obtain ⟨fw, sh, sc, sb, fn, uw, ex, aq, ow, gh, gc, gb, fi, fs, fr⟩ := u
    obtain ⟨yb, ym, yc, yg⟩ := v
    unfold wpX_carry wpY_carry
    exact bX _ (br_f (by decide) (bY _ _ (br_f (by decide) ⟨rfl, I0⟩)))
theorem i_vc_fire {k : Nat} {u : SX} {v : SY} (I : i_Rel k u v) (hk : k + 4 ≤ 2049) (v1 : Int32) : wpX_fire (fun r u' => wpY_fire (fun r' => r' = r ∧ i_Rel (k + 4) u' v) v v1) u v1 := by
  have I0 : i_Rel (k + 4) u v := I
  obtain ⟨W, B, T, bf, g, hb, Ig, hX, hY⟩ := I
  rcases zr_st v1 with ⟨s, hs, rfl⟩ | ⟨bX, bY⟩
  · refine zx_fireX hs hb Ig hX (fun g' X' hX' Ig' => ?_)
    have R : i_Rel (k + 4) X' v := ⟨W, B, T, bf, g', hb, Ig', hX', hY⟩
    obtain ⟨yb, ym, yc, yg⟩ := v
    show wpY_fire _ _ _
    unfold wpY_fire
    exact zr_okY hs (br_t rfl ⟨rfl, R⟩)
  · obtain ⟨fw, sh, sc, sb, fn, uw, ex, aq, ow, gh, gc, gb, fi, fs, fr⟩ := u
    obtain ⟨yb, ym, yc, yg⟩ := v
    unfold wpX_fire wpY_fire
    exact bX _ (br_f (by decide) (bY _ _ (br_f (by decide) ⟨rfl, I0⟩)))
theorem i_vc_waiting {k : Nat} {u : SX} {v : SY} (I : i_Rel k u v) (hk : k + 4 ≤ 2049) (v1 : Int32) : wpX_waiting (fun r u' => wpY_waiting (fun r' => r' = r ∧ i_Rel (k + 4) u' v) v v1) u v1 := by
  have I0 : i_Rel (k + 4) u v := I
  obtain ⟨W, B, T, bf, g, hb, Ig, hX, hY⟩ := I
  obtain ⟨fw, sh, sc, sb, fn, uw, ex, aq, ow, gh, gc, gb, fi, fs, fr⟩ := u
  rcases zr_st v1 with ⟨s, hs, rfl⟩ | ⟨bX, bY⟩
  · unfold wpX_waiting
    refine zr_okX hs (br_t rfl (zx_wait hs hb Ig hX ?_))
    rintro g' ⟨fw', sh', sc', sb', fn', uw', ex', aq', ow', gh', gc', gb', fi', fs', fr'⟩ hX' Ig' S
    exact zy_waiting hs hY ⟨rfl, W, B, T, bf, g', hb, Ig', hX', hY⟩
  · obtain ⟨yb, ym, yc, yg⟩ := v
    unfold wpX_waiting wpY_waiting
    exact bX _ (br_f (by decide) (bY _ _ (br_f (by decide) ⟨rfl, I0⟩)))
theorem i_vc_messages {k : Nat} {u : SX} {v : SY} (I : i_Rel k u v) (hk : k + 4 ≤ 2049) (v1 : Int32) : wpX_messages (fun r u' => wpY_messages (fun r' => r' = r ∧ i_Rel (k + 4) u' v) v v1) u v1 := by
  have I0 : i_Rel (k + 4) u v := I
  obtain ⟨W, B, T, bf, g, hb, Ig, hX, hY⟩ := I
  obtain ⟨fw, sh, sc, sb, fn, uw, ex, aq, ow, gh, gc, gb, fi, fs, fr⟩ := u
  rcases zr_st v1 with ⟨s, hs, rfl⟩ | ⟨bX, bY⟩
  · have hB := zr_room Ig
    have hBs := hB s hs
    have hTs := zr_TB Ig s hs
    unfold wpX_messages
    refine zr_okX hs (br_t rfl (zb_settle hb Ig hX ?_))
    rintro g' ⟨fw', sh', sc', sb', fn', uw', ex', aq', ow', gh', gc', gb', fi', fs', fr'⟩ hX' Ig' hm
    have S := zr_S_of Ig' hm
    have eE := (S s hs).2
    refine ⟨B (1 - s) - T s + 1, zx_marked0 _ _ _ _ _ _ _ _ _ _ _ _ _ _ _ hX' hs hb (by omega) (B (1 - s) - T s) _ 0 0 (by omega) (by omega) ?_⟩
    exact zy_msgs hs hb hY hB ⟨rfl, W, B, T, bf, g', hb, Ig', hX', hY⟩
  · obtain ⟨yb, ym, yc, yg⟩ := v
    unfold wpX_messages wpY_messages
    exact bX _ (br_f (by decide) (bY _ _ (br_f (by decide) ⟨rfl, I0⟩)))
theorem i_vc_peek {k : Nat} {u : SX} {v : SY} (I : i_Rel k u v) (hk : k + 4 ≤ 2049) (v1 : Int32) (v2 : Int32) : wpX_peek (fun r u' => wpY_peek (fun r' => r' = r ∧ i_Rel (k + 4) u' v) v v1 v2) u v1 v2 := by
  have I0 : i_Rel (k + 4) u v := I
  obtain ⟨W, B, T, bf, g, hb, Ig, hX, hY⟩ := I
  obtain ⟨fw, sh, sc, sb, fn, uw, ex, aq, ow, gh, gc, gb, fi, fs, fr⟩ := u
  rcases zr_st v1 with ⟨s, hs, rfl⟩ | ⟨bX, bY⟩
  · have hB := zr_room Ig
    have hBs := hB s hs
    unfold wpX_peek
    refine zr_okX hs (br_t rfl (zx_wait hs hb Ig hX ?_))
    rintro g' ⟨fw', sh', sc', sb', fn', uw', ex', aq', ow', gh', gc', gb', fi', fs', fr'⟩ hX' Ig' S
    have eE := (S s hs).2
    by_cases h0 : v2 < 0
    · have R : i_Rel (k + 4) (fw', sh', sc', sb', fn', uw', ex', aq', ow', gh', gc', gb', fi', fs', fr') v := ⟨W, B, T, bf, g', hb, Ig', hX', hY⟩
      obtain ⟨yb, ym, yc, yg⟩ := v
      refine br_t h0 ?_
      show wpY_peek _ _ _ _
      unfold wpY_peek
      exact zr_okY hs (br_t rfl (br_t h0 ⟨rfl, R⟩))
    · obtain ⟨i, hi, rfl⟩ := nI_of h0
      refine br_f h0 (pk_lt i (B (1 - s) - T s) (fun z => ?_) (fun z => ?_))
      · refine zx_byteAt i hX' hs hi (by omega) ?_
        refine zy_peek hs hi hY hB (fun y => by omega) (fun _ => ⟨?_, W, B, T, bf, g', hb, Ig', hX', hY⟩)
        have hv := hb (1 - s) (T s + i)
        rw [zk_andP (p := 256) (by omega) 8 (by decide) (by decide)]
      · exact zy_peek hs hi hY hB (fun _ => ⟨rfl, W, B, T, bf, g', hb, Ig', hX', hY⟩) (fun y => by omega)
  · obtain ⟨yb, ym, yc, yg⟩ := v
    unfold wpX_peek wpY_peek
    exact bX _ (br_f (by decide) (bY _ _ (br_f (by decide) ⟨rfl, I0⟩)))
theorem i_vc_ends {k : Nat} {u : SX} {v : SY} (I : i_Rel k u v) (hk : k + 4 ≤ 2049) (v1 : Int32) (v2 : Int32) : wpX_ends (fun r u' => wpY_ends (fun r' => r' = r ∧ i_Rel (k + 4) u' v) v v1 v2) u v1 v2 := by
  have I0 : i_Rel (k + 4) u v := I
  obtain ⟨W, B, T, bf, g, hb, Ig, hX, hY⟩ := I
  obtain ⟨fw, sh, sc, sb, fn, uw, ex, aq, ow, gh, gc, gb, fi, fs, fr⟩ := u
  rcases zr_st v1 with ⟨s, hs, rfl⟩ | ⟨bX, bY⟩
  · have hB := zr_room Ig
    have hBs := hB s hs
    unfold wpX_ends
    refine zr_okX hs (br_t rfl (zx_wait hs hb Ig hX ?_))
    rintro g' ⟨fw', sh', sc', sb', fn', uw', ex', aq', ow', gh', gc', gb', fi', fs', fr'⟩ hX' Ig' S
    have eE := (S s hs).2
    by_cases h0 : v2 < 0
    · have R : i_Rel (k + 4) (fw', sh', sc', sb', fn', uw', ex', aq', ow', gh', gc', gb', fi', fs', fr') v := ⟨W, B, T, bf, g', hb, Ig', hX', hY⟩
      obtain ⟨yb, ym, yc, yg⟩ := v
      refine br_t h0 ?_
      show wpY_ends _ _ _ _
      unfold wpY_ends
      exact zr_okY hs (br_t rfl (br_t h0 ⟨rfl, R⟩))
    · obtain ⟨i, hi, rfl⟩ := nI_of h0
      refine br_f h0 (pk_le (B (1 - s) - T s) i (fun z => ?_) (fun z => ?_))
      · exact zy_ends hs hb hi hY hB (fun _ => ⟨rfl, W, B, T, bf, g', hb, Ig', hX', hY⟩) (fun y => by omega) (fun y => by omega)
      · refine zx_byteAt i hX' hs hi (by omega) ?_
        have hv := hb (1 - s) (T s + i)
        refine pk_le (bf (1 - s) (T s + i)) 255 (fun y => ?_) (fun y => ?_)
        · exact zy_ends hs hb hi hY hB (fun w => by omega) (fun _ _ => ⟨rfl, W, B, T, bf, g', hb, Ig', hX', hY⟩) (fun _ w => by omega)
        · exact zy_ends hs hb hi hY hB (fun w => by omega) (fun _ w => by omega) (fun _ _ => ⟨rfl, W, B, T, bf, g', hb, Ig', hX', hY⟩)
  · obtain ⟨yb, ym, yc, yg⟩ := v
    unfold wpX_ends wpY_ends
    exact bX _ (br_f (by decide) (bY _ _ (br_f (by decide) ⟨rfl, I0⟩)))
theorem i_vc_done {k : Nat} {u : SX} {v : SY} (I : i_Rel k u v) (hk : k + 4 ≤ 2049) (v1 : Int32) : wpX_done (fun r => wpY_done (fun r' => r' = r ∧ i_Rel (k + 4) u v) v v1) u v1 := by
  have I0 : i_Rel (k + 4) u v := I
  obtain ⟨W, B, T, bf, g, hb, Ig, hX, hY⟩ := I
  obtain ⟨fw, sh, sc, sb, fn, uw, ex, aq, ow, gh, gc, gb, fi, fs, fr⟩ := u
  rcases zr_st v1 with ⟨s, hs, rfl⟩ | ⟨bX, bY⟩
  · have hc : (nI s).toNatClampNeg = s := nI_clamp (by omega)
    have hi : vp_in (nI s) 2 := vp_in_nI hs (by decide)
    have r13' : fi s = nI (T s) := hX.2.2.2.2.2.2.2.2.2.2.2.2.1 s hs
    unfold wpX_done
    refine zr_okX hs (br_t rfl ⟨hi, ?_⟩)
    rw [hc, r13']
    exact zy_done hs hY ⟨rfl, I0⟩
  · obtain ⟨yb, ym, yc, yg⟩ := v
    unfold wpX_done wpY_done
    exact bX _ (br_f (by decide) (bY _ _ (br_f (by decide) ⟨rfl, I0⟩)))
theorem i_vc_sum {k : Nat} {u : SX} {v : SY} (I : i_Rel k u v) (hk : k + 4 ≤ 2049) (v1 : Int32) : wpX_sum (fun r u' => wpY_sum (fun r' => r' = r ∧ i_Rel (k + 4) u' v) v v1) u v1 := by
  have I0 : i_Rel (k + 4) u v := I
  obtain ⟨W, B, T, bf, g, hb, Ig, hX, hY⟩ := I
  obtain ⟨fw, sh, sc, sb, fn, uw, ex, aq, ow, gh, gc, gb, fi, fs, fr⟩ := u
  rcases zr_st v1 with ⟨s, hs, rfl⟩ | ⟨bX, bY⟩
  · have hB := zr_room Ig
    have hBs := hB s hs
    have hTs := zr_TB Ig s hs
    unfold wpX_sum
    refine zr_okX hs (br_t rfl (zx_wait hs hb Ig hX ?_))
    rintro g' ⟨fw', sh', sc', sb', fn', uw', ex', aq', ow', gh', gc', gb', fi', fs', fr'⟩ hX' Ig' S
    have eE := (S s hs).2
    refine ⟨B (1 - s) - T s + 1, zx_sum0 _ _ _ _ _ _ _ _ _ _ _ _ _ _ _ hX' hs hb (by omega) (by omega) (B (1 - s) - T s) _ 0 0 (by omega) (by omega) ?_⟩
    exact zy_sum hs hY hB ⟨rfl, W, B, T, bf, g', hb, Ig', hX', hY⟩
  · obtain ⟨yb, ym, yc, yg⟩ := v
    unfold wpX_sum wpY_sum
    exact bX _ (br_f (by decide) (bY _ _ (br_f (by decide) ⟨rfl, I0⟩)))
end
