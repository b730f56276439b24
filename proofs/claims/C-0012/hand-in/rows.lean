section
/-! pure rows to paste: stores, nI and lN arithmetic, masks, shifts, narrowing, branches by naturals (pk_le, pk_lt, pk_eq), loops (lp1 .. lp16: the measure of the state; rp1 ..: recursion), negatives. Take what you need -/
theorem pk_us {f : Nat → Int32} {k : Nat} {x : Int32} : upd f k x k = x := if_pos rfl
theorem pk_un {f : Nat → Int32} {k j : Nat} {x : Int32} (h : j ≠ k) : upd f k x j = f j := if_neg h
theorem pk_uLs {f : Nat → Int64} {k : Nat} {x : Int64} : vp_updL f k x k = x := if_pos rfl
theorem pk_uLn {f : Nat → Int64} {k j : Nat} {x : Int64} (h : j ≠ k) : vp_updL f k x j = f j := if_neg h
theorem pk_sub {a b : Nat} (h : b ≤ a) : nI a - nI b = nI (a - b) := by
  obtain ⟨c, rfl⟩ : ∃ c, a = c + b := ⟨a - b, by omega⟩
  rw [← nI_add, Int32.add_sub_cancel, Nat.add_sub_cancel]
theorem pk_m1 (n : Nat) : nI (n + 1) + (-1) = nI n := by
  rw [← nI_1, Int32.add_assoc, show (1 : Int32) + (-1) = 0 from rfl, Int32.add_zero]
theorem pk_mul (a b : Nat) : nI a * nI b = nI (a * b) := (Int32.ofNat_mul a b).symm
theorem pk_div {a d : Nat} (ha : a < 2 ^ 31) (h0 : 0 < d) (hd : d < 2 ^ 31) : nI a / nI d = nI (a / d) := by
  apply Int32.toInt_inj.mp
  rw [lg_idiv_nonneg (by rw [nI_toInt ha]; omega) (by rw [nI_toInt hd]; omega), nI_toInt ha, nI_toInt hd, nI_toInt (Nat.lt_of_le_of_lt (Nat.div_le_self a d) ha)]
  first | rfl | exact (Int.natCast_ediv _ _).symm
theorem pk_rem {a d : Nat} (ha : a < 2 ^ 31) (h0 : 0 < d) (hd : d < 2 ^ 31) : nI a - nI a / nI d * nI d = nI (a % d) := by
  rw [pk_div ha h0 hd, pk_mul, pk_sub (Nat.div_mul_le_self a d)]
  exact congrArg nI (by have := Nat.div_add_mod' a d; omega)
theorem pk_sub_toInt {a b : Nat} (ha : a < 2 ^ 30) (hb : b < 2 ^ 30) : (nI a - nI b).toInt = (a : Int) - b := by
  rw [Int32.toInt_sub, nI_toInt (by omega), nI_toInt (by omega)]
  exact Int.bmod_eq_of_le (by omega) (by omega)
theorem pk_sneg {a b : Nat} (hb : b < 2 ^ 30) (h : a < b) : nI a - nI b < 0 := by
  rw [Int32.lt_iff_toInt_lt, pk_sub_toInt (by omega) hb, show (0 : Int32).toInt = 0 from by decide]
  omega
theorem pk_ix (x : Int32) {n : Nat} (hn : n < 2 ^ 31) : x < 0 ∨ nI n ≤ x ∨ ∃ j : Nat, j < n ∧ x = nI j := by
  by_cases h : x < 0
  · exact Or.inl h
  · obtain ⟨j, hj, rfl⟩ := nI_of h
    by_cases h2 : j < n
    · exact Or.inr (Or.inr ⟨j, h2, rfl⟩)
    · exact Or.inr (Or.inl (nI_le (by omega) hj))
theorem pk_le {x y : Int32} {A B : Prop} (a b : Nat) (f : a ≤ b → A) (g : b < a → B) (hx : x = nI a := by rfl) (hy : y = nI b := by rfl) (ha : a < 2 ^ 31 := by omega) (hb : b < 2 ^ 31 := by omega) : (x ≤ y → A) ∧ (¬ x ≤ y → B) := by
  subst hx hy
  rw [nI_leI ha hb]
  exact ⟨f, fun z => g (by omega)⟩
theorem pk_lt {x y : Int32} {A B : Prop} (a b : Nat) (f : a < b → A) (g : b ≤ a → B) (hx : x = nI a := by rfl) (hy : y = nI b := by rfl) (ha : a < 2 ^ 31 := by omega) (hb : b < 2 ^ 31 := by omega) : (x < y → A) ∧ (¬ x < y → B) := by
  subst hx hy
  rw [nI_ltI ha hb]
  exact ⟨f, fun z => g (by omega)⟩
theorem pk_eq {x y : Int32} {A B : Prop} (a b : Nat) (f : a = b → A) (g : a ≠ b → B) (hx : x = nI a := by rfl) (hy : y = nI b := by rfl) (ha : a < 2 ^ 31 := by omega) (hb : b < 2 ^ 31 := by omega) : (x = y → A) ∧ (¬ x = y → B) := by
  subst hx hy
  rw [nI_eq ha hb]
  exact ⟨f, g⟩
theorem pk_in {x : Int32} (n N : Nat) (h : n < N) (hx : x = nI n := by rfl) (hN : N < 2 ^ 31 := by omega) : vp_in x N := by
  subst hx
  exact vp_in_nI h hN
theorem pk_cl {x : Int32} (n : Nat) (hx : x = nI n := by rfl) (h : n < 2 ^ 31 := by omega) : x.toNatClampNeg = n := by
  subst hx
  exact nI_clamp h
theorem pk_tn {n : Nat} (h : n < 2 ^ 32) : (nI n).toBitVec.toNat = n := Nat.mod_eq_of_lt h
theorem pk_and (x : Int32) {m : Int32} (k : Nat) (hm : m.toBitVec.toNat = 2 ^ k - 1) : x &&& m = nI (x.toBitVec.toNat % 2 ^ k) := by
  apply Int32.toBitVec_inj.mp
  apply BitVec.eq_of_toNat_eq
  rw [Int32.toBitVec_and, BitVec.toNat_and, hm, Nat.and_two_pow_sub_one_eq_mod]
  show _ = (BitVec.ofNat 32 _).toNat
  rw [BitVec.toNat_ofNat]
  exact (Nat.mod_eq_of_lt (Nat.lt_of_le_of_lt (Nat.mod_le _ _) x.toBitVec.isLt)).symm
theorem pk_andN {n : Nat} (h : n < 2 ^ 32) {m : Int32} (k : Nat) (hm : m.toBitVec.toNat = 2 ^ k - 1) : nI n &&& m = nI (n % 2 ^ k) := by
  rw [pk_and _ k hm, pk_tn h]
theorem pk_andE (x : Int32) {m : Int32} (k : Nat) (hm : m.toBitVec.toNat = 2 ^ k - 1) : ∃ j : Nat, j < 2 ^ k ∧ x &&& m = nI j := ⟨_, Nat.mod_lt _ (Nat.two_pow_pos k), pk_and x k hm⟩
theorem pk_andIn (x : Int32) {m : Int32} (k : Nat) (hm : m.toBitVec.toNat = 2 ^ k - 1) (hk : k ≤ 30) : vp_in (x &&& m) (2 ^ k) := by
  obtain ⟨j, hj, e⟩ := pk_andE x k hm
  rw [e]
  exact vp_in_nI hj (Nat.lt_of_le_of_lt (Nat.pow_le_pow_right (by decide) hk) (by decide))
theorem pk_shl (a s : Int32) (k : Nat) (hs : (s.toBitVec.smod 32).toNat = k) : (a <<< s).toBitVec.toNat = a.toBitVec.toNat * 2 ^ k % 2 ^ 32 := by
  show (a.toBitVec <<< (s.toBitVec.smod 32).toNat).toNat = _
  rw [hs, BitVec.toNat_shiftLeft, Nat.shiftLeft_eq]
theorem pk_shlN {n : Nat} (s : Int32) (k : Nat) (hs : (s.toBitVec.smod 32).toNat = k) (h : n * 2 ^ k < 2 ^ 32) : nI n <<< s = nI (n * 2 ^ k) := by
  apply Int32.toBitVec_inj.mp
  apply BitVec.eq_of_toNat_eq
  have hn : n < 2 ^ 32 := Nat.lt_of_le_of_lt (Nat.le_mul_of_pos_right n (Nat.two_pow_pos k)) h
  rw [pk_shl _ _ k hs, pk_tn hn, pk_tn h, Nat.mod_eq_of_lt h]
theorem pk_shr (a s : Int32) (k : Nat) (hs : (s.toBitVec.smod 32).toNat = k) : (a >>> s).toInt = a.toInt >>> k := by
  show (a.toBitVec.sshiftRight (s.toBitVec.smod 32).toNat).toInt = _
  rw [hs, BitVec.toInt_sshiftRight]
  rfl
theorem pk_shrN {n : Nat} (h : n < 2 ^ 31) (s : Int32) (k : Nat) (hs : (s.toBitVec.smod 32).toNat = k) : nI n >>> s = nI (n / 2 ^ k) := by
  apply Int32.toInt_inj.mp
  have h2 : n / 2 ^ k ≤ n := Nat.div_le_self _ _
  rw [pk_shr _ _ k hs, nI_toInt h, nI_toInt (by omega), Int.shiftRight_eq_div_pow]
  rfl
theorem pk_ushr (x s : Int32) (k : Nat) (hs : ((s.toUInt32 &&& Int32.toUInt32 31).toBitVec % 32).toNat = k) : (x.toUInt32 >>> (s.toUInt32 &&& Int32.toUInt32 31)).toInt32.toBitVec.toNat = x.toBitVec.toNat / 2 ^ k := by
  have e : (x.toUInt32 >>> (s.toUInt32 &&& Int32.toUInt32 31)).toInt32.toBitVec = x.toBitVec >>> k := by
    rw [← hs]
    exact UInt32.toBitVec_shiftRight _ _
  rw [e, BitVec.toNat_ushiftRight, Nat.shiftRight_eq_div_pow]
theorem pk_ushrN {n : Nat} (hn : n < 2 ^ 32) (s : Int32) (k : Nat) (hs : ((s.toUInt32 &&& Int32.toUInt32 31).toBitVec % 32).toNat = k) : ((nI n).toUInt32 >>> (s.toUInt32 &&& Int32.toUInt32 31)).toInt32 = nI (n / 2 ^ k) := by
  apply Int32.toBitVec_inj.mp
  apply BitVec.eq_of_toNat_eq
  rw [pk_ushr _ s k hs, pk_tn hn, pk_tn (Nat.lt_of_le_of_lt (Nat.div_le_self _ _) hn)]
theorem pk_nb (z : Int32) : narrow .byte (.int z.toInt8.toInt32) = .int z.toInt8.toInt32 := congrArg Value.int (by simp)
theorem pk_ns (z : Int32) : narrow .short (.int z.toInt16.toInt32) = .int z.toInt16.toInt32 := congrArg Value.int (by simp)
theorem pk_fb (r : Int32) : fits .byte (.int r.toInt8.toInt32) = true := by
  have ⟨a, b⟩ := lg_i2b_range r
  have h1 : (-128 : Int32).toInt = -128 := by decide
  have h2 : (127 : Int32).toInt = 127 := by decide
  simp only [fits, Bool.and_eq_true, decide_eq_true_eq, Int32.le_iff_toInt_le, h1, h2]
  omega
theorem pk_fs (r : Int32) : fits .short (.int r.toInt16.toInt32) = true := by
  have ⟨a, b⟩ := lg_i2s_range r
  have h1 : (-32768 : Int32).toInt = -32768 := by decide
  have h2 : (32767 : Int32).toInt = 32767 := by decide
  simp only [fits, Bool.and_eq_true, decide_eq_true_eq, Int32.le_iff_toInt_le, h1, h2]
  omega
theorem pk_charN {q : Nat} (hq : q < 65536) : narrow .char (.int (nI q)) = .int (nI q) ∧ fits .char (.int (nI q)) = true := by
  constructor
  · have e : (nI q).toUInt32.toUInt16.toUInt32.toInt32 = nI q := by
      apply Int32.toBitVec_inj.mp
      apply BitVec.eq_of_toNat_eq
      show (nI q).toUInt32.toUInt16.toUInt32.toNat = q % 2 ^ 32
      rw [UInt16.toNat_toUInt32, UInt32.toNat_toUInt16, show (nI q).toUInt32.toNat = q % 2 ^ 32 from rfl]
      omega
    exact congrArg Value.int e
  · have a : (0 : Int32) ≤ nI q := nI_pos' (by omega)
    have b : nI q ≤ 65535 := nI_le (b := 65535) (by omega) (by decide)
    show (decide ((0 : Int32) ≤ nI q) && decide (nI q ≤ 65535)) = true
    rw [decide_eq_true a, decide_eq_true b]
    rfl
theorem pk_char (x : Int32) : (x.toUInt32 % 65536).toInt32 = nI (x.toBitVec.toNat % 65536) := by
  apply Int32.toBitVec_inj.mp
  apply BitVec.eq_of_toNat_eq
  rw [pk_tn (by omega)]
  show (x.toUInt32 % 65536).toNat = _
  rw [UInt32.toNat_mod]
  rfl
theorem pk_nc (x : Int32) : narrow .char (.int (x.toUInt32 % 65536).toInt32) = .int (x.toUInt32 % 65536).toInt32 := by
  rw [pk_char]
  exact (pk_charN (Nat.mod_lt _ (by decide))).1
theorem pk_fc (x : Int32) : fits .char (.int (x.toUInt32 % 65536).toInt32) = true := by
  rw [pk_char]
  exact (pk_charN (Nat.mod_lt _ (by decide))).2
theorem pk_vb (z : Int32) : vp_nar .byte z.toInt8.toInt32 = z.toInt8.toInt32 := by rw [vp_nar_byte]; simp
theorem pk_vs (z : Int32) : vp_nar .short z.toInt16.toInt32 = z.toInt16.toInt32 := by rw [vp_nar_short]; simp
theorem pk_vc (z : Int32) : vp_nar .char (z.toUInt32 % 65536).toInt32 = (z.toUInt32 % 65536).toInt32 := Value.int.inj (pk_nc z)
theorem pk_lT {n : Nat} (h : n < 2 ^ 63) : (lN n).toInt = (n : Int) := lg_ofNat_toInt h
theorem pk_lLT {a b : Nat} (ha : a < 2 ^ 63) (hb : b < 2 ^ 63) : lN a < lN b ↔ a < b := by
  rw [Int64.lt_iff_toInt_lt, pk_lT ha, pk_lT hb]; omega
theorem pk_lLE {a b : Nat} (ha : a < 2 ^ 63) (hb : b < 2 ^ 63) : lN a ≤ lN b ↔ a ≤ b := by
  rw [Int64.le_iff_toInt_le, pk_lT ha, pk_lT hb]; omega
theorem pk_lEQ {a b : Nat} (ha : a < 2 ^ 63) (hb : b < 2 ^ 63) : lN a = lN b ↔ a = b := by
  rw [← Int64.toInt_inj, pk_lT ha, pk_lT hb]; omega
theorem pk_lOf {x : Int64} (h : ¬ x < 0) : ∃ k : Nat, k < 2 ^ 63 ∧ x = lN k := by
  rw [Int64.lt_iff_toInt_lt] at h
  have h0 : (0 : Int64).toInt = 0 := by decide
  have hx := Int64.toInt_lt x
  refine ⟨x.toInt.toNat, by omega, Int64.toInt_inj.mp ?_⟩
  rw [pk_lT (by omega)]
  omega
theorem pk_lDiv {a b : Nat} (ha : a < 2 ^ 63) (h0 : 0 < b) (hb : b < 2 ^ 63) : lN a / lN b = lN (a / b) := by
  apply Int64.toInt_inj.mp
  rw [lg_ldiv_nonneg (by rw [pk_lT ha]; omega) (by rw [pk_lT hb]; omega), pk_lT ha, pk_lT hb, pk_lT (Nat.lt_of_le_of_lt (Nat.div_le_self a b) ha)]
  rfl
theorem pk_lRem {a b : Nat} (ha : a < 2 ^ 63) (h0 : 0 < b) (hb : b < 2 ^ 63) : lN a - lN a / lN b * lN b = lN (a % b) := by
  rw [pk_lDiv ha h0 hb, lN_mul, lN_sub (Nat.div_mul_le_self a b)]
  exact congrArg lN (by have := Nat.div_add_mod' a b; omega)
theorem pk_loop {σ : Type} (W : Nat → Nat → σ → Prop) (I : Nat → σ → Prop) (e i0 : Nat) (s : σ) (hi : i0 ≤ e) (h0 : I i0 s) (hx : ∀ n s, I e s → W (n + 1) e s)
    (hs : ∀ n i s, i < e → I i s → (∀ s', I (i + 1) s' → W n (i + 1) s') → W (n + 1) i s) : ∃ n, W n i0 s :=
  ⟨e + 1, loop_i W I e hx hs (e + 1) i0 s hi (by omega) h0⟩
theorem pk_loopD {σ : Type} (W : Nat → Nat → σ → Prop) (I : Nat → σ → Prop) (hx : ∀ n s, I 0 s → W (n + 1) 0 s)
    (hs : ∀ n i s, I (i + 1) s → (∀ s', I i s' → W n i s') → W (n + 1) (i + 1) s) : ∀ (e : Nat) (s : σ), I e s → W (e + 1) e s := by
  intro e
  induction e with
  | zero => exact fun s h => hx 0 s h
  | succ e ih => exact fun s h => hs (e + 1) e s h (fun s' h' => ih s' h')
theorem pk_least (P : Nat → Prop) (h : ∃ k, P k) : ∃ k, P k ∧ ∀ j, j < k → ¬ P j := by
  obtain ⟨k, hk⟩ := h
  induction k using Nat.strongRecOn with
  | ind k ih =>
    by_cases e : ∃ j, j < k ∧ P j
    · obtain ⟨j, hj, pj⟩ := e
      exact ih j hj pj
    · exact ⟨k, hk, fun j hj pj => e ⟨j, hj, pj⟩⟩
theorem ek_if {c d A B : Prop} (e : c ↔ d) (f : d → A) (g : ¬ d → B) : (c → A) ∧ (¬ c → B) :=
  ⟨fun z => f (e.mp z), fun z => g (fun y => z (e.mpr y))⟩
theorem ek_v {α : Sort _} {P : α → Prop} {a b : α} (e : a = b) (h : P b) : P a := e ▸ h
theorem co_2 {P : Nat → Prop} (h0 : P 0) (h1 : P 1) {i : Nat} (hi : i < 2) : P i :=
  match i, hi with
  | 0, _ => h0
  | 1, _ => h1
theorem co_3 {P : Nat → Prop} (h0 : P 0) (h1 : P 1) (h2 : P 2) {i : Nat} (hi : i < 3) : P i :=
  match i, hi with
  | 0, _ => h0
  | 1, _ => h1
  | 2, _ => h2
theorem co_4 {P : Nat → Prop} (h0 : P 0) (h1 : P 1) (h2 : P 2) (h3 : P 3) {i : Nat} (hi : i < 4) : P i :=
  match i, hi with
  | 0, _ => h0
  | 1, _ => h1
  | 2, _ => h2
  | 3, _ => h3
theorem co_dec {N : Nat} {P : Nat → Prop} [DecidablePred P] (h : (List.range N).all (fun i => decide (P i)) = true) {i : Nat} (hi : i < N) : P i := by
  have := List.all_eq_true.mp h i (List.mem_range.mpr hi)
  exact of_decide_eq_true this
theorem sb_shr0 (x : Int32) : x >>> ((0 : Int32) &&& 31) = x := by
  rw [show ((0 : Int32) &&& 31) = 0 by decide]
  simp
theorem sb_shl0 (x : Int32) : x <<< ((0 : Int32) &&& 31) = x := by
  rw [show ((0 : Int32) &&& 31) = 0 by decide]
  simp
theorem sb_cl0 : (0 : Int32).toNatClampNeg = 0 := by decide
theorem sb_m1 {p : Nat} (h : 0 < p) : nI p + (-1) = nI (p - 1) := by
  obtain ⟨q, rfl⟩ : ∃ q, p = q + 1 := ⟨p - 1, by omega⟩
  exact pk_m1 q
theorem nx_and (a b : Nat) : nI a &&& nI b = nI (a &&& b) := by
  apply Int32.toBitVec_inj.1
  show BitVec.ofNat 32 a &&& BitVec.ofNat 32 b = BitVec.ofNat 32 (a &&& b)
  apply BitVec.eq_of_getLsbD_eq
  intro i hi
  simp [hi]
theorem nx_xor (a b : Nat) : nI a ^^^ nI b = nI (a ^^^ b) := by
  apply Int32.toBitVec_inj.1
  show BitVec.ofNat 32 a ^^^ BitVec.ofNat 32 b = BitVec.ofNat 32 (a ^^^ b)
  apply BitVec.eq_of_getLsbD_eq
  intro i hi
  simp [hi]
end
section
/-! ===== accessors of the two states (written by a program) ===== -/
abbrev kx_count (u : SX) : Int32 := u.1
abbrev kx_all (u : SX) : Int32 := u.2.1
abbrev kx_judged (u : SX) : Int32 := u.2.2.1
abbrev kx_settledSet (u : SX) : Int32 := u.2.2.2.1
abbrev kx_wellSet (u : SX) : Int32 := u.2.2.2.2.1
abbrev kx_nodes (u : SX) : Int32 := u.2.2.2.2.2.1
abbrev kx_arity (u : SX) : Nat → Int32 := u.2.2.2.2.2.2.1
abbrev kx_sizes (u : SX) : Nat → Int32 := u.2.2.2.2.2.2.2.1
abbrev kx_tokens (u : SX) : Nat → Int32 := u.2.2.2.2.2.2.2.2.1
abbrev kx_finished (u : SX) : Nat → Int32 := u.2.2.2.2.2.2.2.2.2.1
abbrev kx_fieldCount (u : SX) : Nat → Int32 := u.2.2.2.2.2.2.2.2.2.2.1
abbrev kx_need (u : SX) : Nat → Int32 := u.2.2.2.2.2.2.2.2.2.2.2.1
abbrev kx_settled (u : SX) : Nat → Int32 := u.2.2.2.2.2.2.2.2.2.2.2.2.1
abbrev kx_trial (u : SX) : Nat → Int32 := u.2.2.2.2.2.2.2.2.2.2.2.2.2.1
abbrev kx_sort (u : SX) : Nat → Int32 := u.2.2.2.2.2.2.2.2.2.2.2.2.2.2.1
abbrev kx_left (u : SX) : Nat → Int32 := u.2.2.2.2.2.2.2.2.2.2.2.2.2.2.2.1
abbrev kx_right (u : SX) : Nat → Int32 := u.2.2.2.2.2.2.2.2.2.2.2.2.2.2.2.2.1
abbrev kx_link (u : SX) : Nat → Int32 := u.2.2.2.2.2.2.2.2.2.2.2.2.2.2.2.2.2.1
abbrev kx_typeNode (u : SX) : Nat → Int32 := u.2.2.2.2.2.2.2.2.2.2.2.2.2.2.2.2.2.2.1
abbrev kx_parameterNode (u : SX) : Nat → Int32 := u.2.2.2.2.2.2.2.2.2.2.2.2.2.2.2.2.2.2.2.1
abbrev kx_values (u : SX) : Nat → Int32 := u.2.2.2.2.2.2.2.2.2.2.2.2.2.2.2.2.2.2.2.2.1
abbrev kx_todoA (u : SX) : Nat → Int32 := u.2.2.2.2.2.2.2.2.2.2.2.2.2.2.2.2.2.2.2.2.2.1
abbrev kx_todoB (u : SX) : Nat → Int32 := u.2.2.2.2.2.2.2.2.2.2.2.2.2.2.2.2.2.2.2.2.2.2
abbrev ky_count (u : SY) : Int32 := u.1
abbrev ky_params (u : SY) : Nat → Int32 := u.2.1
abbrev ky_size (u : SY) : Nat → Int32 := u.2.2.1
abbrev ky_tokens (u : SY) : Nat → Int32 := u.2.2.2.1
abbrev ky_need (u : SY) : Nat → Int32 := u.2.2.2.2.1
abbrev ky_done (u : SY) : Nat → Int32 := u.2.2.2.2.2.1
abbrev ky_good (u : SY) : Nat → Int32 := u.2.2.2.2.2.2.1
abbrev ky_number (u : SY) : Nat → Int32 := u.2.2.2.2.2.2.2.1
abbrev ky_stack (u : SY) : Nat → Int32 := u.2.2.2.2.2.2.2.2
/-- the state with other links and work lists -/
abbrev kx_sU (u : SX) (l a b : Nat → Int32) : SX := ((kx_count u), (kx_all u), (kx_judged u), (kx_settledSet u), (kx_wellSet u), (kx_nodes u), (kx_arity u), (kx_sizes u), (kx_tokens u), (kx_finished u), (kx_fieldCount u), (kx_need u), (kx_settled u), (kx_trial u), (kx_sort u), (kx_left u), (kx_right u), (l), (kx_typeNode u), (kx_parameterNode u), (kx_values u), (a), (b))
/-- the state with another graph -/
abbrev kx_sG (u : SX) (n : Int32) (s f r l a b : Nat → Int32) : SX := ((kx_count u), (kx_all u), (kx_judged u), (kx_settledSet u), (kx_wellSet u), (n), (kx_arity u), (kx_sizes u), (kx_tokens u), (kx_finished u), (kx_fieldCount u), (kx_need u), (kx_settled u), (kx_trial u), (s), (f), (r), (l), (kx_typeNode u), (kx_parameterNode u), (kx_values u), (a), (b))
/-- the state with another graph, other nodes of types and parameters -/
abbrev kx_sP (u : SX) (n : Int32) (s f r l t p : Nat → Int32) : SX := ((kx_count u), (kx_all u), (kx_judged u), (kx_settledSet u), (kx_wellSet u), (n), (kx_arity u), (kx_sizes u), (kx_tokens u), (kx_finished u), (kx_fieldCount u), (kx_need u), (kx_settled u), (kx_trial u), (s), (f), (r), (l), (t), (p), (kx_values u), (kx_todoA u), (kx_todoB u))
abbrev kx_sV (u : SX) (x : Nat → Int32) : SX := ((kx_count u), (kx_all u), (kx_judged u), (kx_settledSet u), (kx_wellSet u), (kx_nodes u), (kx_arity u), (kx_sizes u), (kx_tokens u), (kx_finished u), (kx_fieldCount u), (kx_need u), (kx_settled u), (kx_trial u), (kx_sort u), (kx_left u), (kx_right u), (kx_link u), (kx_typeNode u), (kx_parameterNode u), (x), (kx_todoA u), (kx_todoB u))
/-- the state with all that a solving changes -/
abbrev kx_sS (u : SX) (y : Nat → Int32) (n : Int32) (s f r l t p x a b : Nat → Int32) : SX := ((kx_count u), (kx_all u), (kx_judged u), (kx_settledSet u), (kx_wellSet u), (n), (kx_arity u), (kx_sizes u), (kx_tokens u), (kx_finished u), (kx_fieldCount u), (kx_need u), (kx_settled u), (y), (s), (f), (r), (l), (t), (p), (x), (a), (b))
/-! ===== numbers ===== -/
theorem kj_or (a b : Nat) : nI a ||| nI b = nI (a ||| b) := by
  apply Int32.toBitVec_inj.1
  show BitVec.ofNat 32 a ||| BitVec.ofNat 32 b = BitVec.ofNat 32 (a ||| b)
  apply BitVec.eq_of_getLsbD_eq
  intro i hi
  simp [hi]
theorem kj_tb : ∀ m, m < 16 → ∀ j, j < 4 → ((nI m >>> (nI j &&& 31)) &&& 1) = (if m.testBit j = true then 1 else 0) := by decide +kernel
theorem kj_b0 {x y : Int32} {A B : Prop} (m j : Nat) (hx : x = nI m) (hy : y = nI j) (hm : m < 16) (hj : j < 4) (f : m.testBit j = false → A) (g : m.testBit j = true → B) :
    ((((x >>> (y &&& 31)) &&& 1) = 0 → A) ∧ (¬ ((x >>> (y &&& 31)) &&& 1) = 0 → B)) := by
  rw [hx, hy, kj_tb m hm j hj]
  cases h : m.testBit j
  · exact ⟨fun _ => f h, fun z => absurd rfl z⟩
  · exact ⟨fun z => absurd z (by decide), fun _ => g h⟩
theorem kj_b1 {x y : Int32} {A B : Prop} (m j : Nat) (hx : x = nI m) (hy : y = nI j) (hm : m < 16) (hj : j < 4) (f : m.testBit j = true → A) (g : m.testBit j = false → B) :
    ((((x >>> (y &&& 31)) &&& 1) = 1 → A) ∧ (¬ ((x >>> (y &&& 31)) &&& 1) = 1 → B)) := by
  rw [hx, hy, kj_tb m hm j hj]
  cases h : m.testBit j
  · exact ⟨fun z => absurd z (by decide), fun _ => g h⟩
  · exact ⟨fun _ => f h, fun z => absurd rfl z⟩
theorem kj_sh1 : ∀ j, j < 4 → (1 : Int32) <<< (nI j &&& 31) = nI (2 ^ j) := by decide +kernel
theorem kj_i8 : ∀ v, v < 128 → (nI v).toInt8.toInt32 = nI v := by decide +kernel
theorem kj_i16 : ∀ v, v < 512 → (nI v).toInt16.toInt32 = nI v := by decide +kernel
theorem kj_nb {v : Nat} (h : v < 128) : vp_nar .byte (nI v).toInt8.toInt32 = nI v := by rw [pk_vb, kj_i8 v h]
theorem kj_nb' {v : Nat} (h : v < 128) : vp_nar .byte (nI v) = nI v := by rw [vp_nar_byte, kj_i8 v h]
theorem kj_ns {v : Nat} (h : v < 512) : vp_nar .short (nI v).toInt16.toInt32 = nI v := by rw [pk_vs, kj_i16 v h]
theorem kj_ns' {v : Nat} (h : v < 512) : vp_nar .short (nI v) = nI v := by rw [vp_nar_short, kj_i16 v h]
theorem kj_nsm : vp_nar .short (-1) = -1 := by rw [vp_nar_short]; decide
theorem kj_nt0 : vp_nar .boolean 0 = 0 := rfl
theorem kj_nt1 : vp_nar .boolean 1 = 1 := rfl
def kj_df (a b : Nat) : Nat := a &&& (15 ^^^ b)
theorem kj_df_lt {a b : Nat} (h : a < 16) : kj_df a b < 16 := Nat.lt_of_le_of_lt Nat.and_le_left h
theorem kj_dfI : ∀ a, a < 16 → ∀ b, b < 16 → nI a &&& (nI b ^^^ (-1)) = nI (kj_df a b) := by decide +kernel
theorem kj_dft : ∀ a, a < 16 → ∀ b, b < 16 → ∀ j, j < 4 → (kj_df a b).testBit j = (a.testBit j && !b.testBit j) := by decide +kernel
theorem kj_z0 : ∀ a, a < 16 → (∀ j, j < 4 → a.testBit j = false) → a = 0 := by decide +kernel
theorem kj_z1 (j : Nat) : (0 : Nat).testBit j = false := Nat.zero_testBit j
theorem kj_sub0 {a b c : Nat} (ha : a < 16) (hb : b < 16) (hc : c < 16) : ((nI a &&& (nI b ^^^ (-1))) &&& (nI c ^^^ (-1))) = 0 ↔ ∀ j, j < 4 → a.testBit j = true → b.testBit j = true ∨ c.testBit j = true := by
  rw [kj_dfI a ha b hb, kj_dfI _ (kj_df_lt ha) c hc, ← nI_0, nI_eq (Nat.lt_trans (kj_df_lt (kj_df_lt ha)) (by decide)) (by decide)]
  constructor
  · intro h j hj ht
    have e := kj_dft _ (kj_df_lt (b := b) ha) c hc j hj
    rw [h, kj_z1, kj_dft a ha b hb j hj, ht] at e
    cases hb' : b.testBit j
    · cases hc' : c.testBit j
      · rw [hb', hc'] at e; exact absurd e (by decide)
      · exact Or.inr rfl
    · exact Or.inl rfl
  · intro h
    refine kj_z0 _ (kj_df_lt (kj_df_lt ha)) (fun j hj => ?_)
    rw [kj_dft _ (kj_df_lt ha) c hc j hj, kj_dft a ha b hb j hj]
    cases ht : a.testBit j
    · rfl
    · rcases h j hj ht with z | z
      · rw [z]; rfl
      · rw [z]; cases b.testBit j <;> rfl
theorem kj_or16 {a b : Nat} (ha : a < 16) (hb : b < 16) : a ||| b < 16 := Nat.or_lt_two_pow (n := 4) ha hb
theorem kj_p16 {j : Nat} (h : j < 4) : 2 ^ j < 16 := Nat.pow_lt_pow_right (a := 2) (by decide) h
theorem kj_ptb (i j : Nat) : (2 ^ i).testBit j = decide (i = j) := Nat.testBit_two_pow
theorem kj_hi {m j : Nat} (hm : m < 16) (hj : 4 ≤ j) : m.testBit j = false := Nat.testBit_lt_two_pow (Nat.lt_of_lt_of_le hm (Nat.pow_le_pow_right (n := 2) (by decide) hj))
def kj_up {α : Type} (f : Nat → α) (k : Nat) (x : α) : Nat → α := fun j => if j = k then x else f j
theorem kj_us {α : Type} {f : Nat → α} {k : Nat} {x : α} : kj_up f k x k = x := if_pos rfl
theorem kj_un {α : Type} {f : Nat → α} {k j : Nat} {x : α} (h : j ≠ k) : kj_up f k x j = f j := if_neg h
theorem kj_upd {a : Nat → Int32} {f : Nat → Nat} (h : ∀ j, a j = nI (f j)) (k v : Nat) (j : Nat) : upd a k (nI v) j = nI (kj_up f k v j) := by
  rcases Nat.decEq j k with e | e
  · rw [pk_un e, kj_un e, h]
  · subst e; rw [pk_us, kj_us]
theorem kj_cl {n : Nat} (h : n < 1000) : (nI n).toNatClampNeg = n := nI_clamp (by omega)
theorem kj_20 {i : Nat} (k : Nat) : nI i * 20 + nI k = nI (20 * i + k) := by
  show nI i * nI 20 + nI k = _
  rw [pk_mul, nI_add, Nat.mul_comm]
theorem kj_20' {i : Nat} (k : Nat) : 20 * nI i + nI k = nI (20 * i + k) := by
  show nI 20 * nI i + nI k = _
  rw [pk_mul, nI_add]
theorem kj_2 {i : Nat} (k : Nat) : nI i * 2 + nI k = nI (2 * i + k) := by
  show nI i * nI 2 + nI k = _
  rw [pk_mul, nI_add, Nat.mul_comm]
theorem kj_2' {i : Nat} (k : Nat) : 2 * nI i + nI k = nI (2 * i + k) := by
  show nI 2 * nI i + nI k = _
  rw [pk_mul, nI_add]
theorem kj_2z (i : Nat) : nI i * 2 = nI (2 * i) := by
  show nI i * nI 2 = _
  rw [pk_mul, Nat.mul_comm]
theorem kj_2z' (i : Nat) : 2 * nI i = nI (2 * i) := by
  show nI 2 * nI i = _
  rw [pk_mul]
theorem kj_in {x : Int32} {n N : Nat} (hx : x = nI n) (h : n < N) (hN : N < 1000) : vp_in x N := by rw [hx]; exact vp_in_nI h (by omega)
end
section
/-! ===== the scan of a type's tokens: places to fill, finished fields, where they end ===== -/
def kj_op (t : Nat → Nat) : Nat → Nat
  | 0 => 1
  | k + 1 => if t k = 0 then kj_op t k + 1 else if kj_op t k = 1 then 1 else kj_op t k - 1
def kj_fd (t : Nat → Nat) : Nat → Nat
  | 0 => 0
  | k + 1 => if t k ≠ 0 ∧ kj_op t k = 1 then kj_fd t k + 1 else kj_fd t k
def kj_en (t : Nat → Nat) : Nat → Nat
  | 0 => 0
  | k + 1 => if t k ≠ 0 ∧ kj_op t k = 1 then k + 1 else kj_en t k
theorem kj_op0 {t : Nat → Nat} {k : Nat} (h : t k = 0) : kj_op t (k + 1) = kj_op t k + 1 := if_pos h
theorem kj_op1 {t : Nat → Nat} {k : Nat} (h : t k ≠ 0) (h1 : kj_op t k = 1) : kj_op t (k + 1) = 1 := by
  show (if t k = 0 then _ else _) = _
  rw [if_neg h, if_pos h1]
theorem kj_op2 {t : Nat → Nat} {k : Nat} (h : t k ≠ 0) (h1 : kj_op t k ≠ 1) : kj_op t (k + 1) = kj_op t k - 1 := by
  show (if t k = 0 then _ else _) = _
  rw [if_neg h, if_neg h1]
theorem kj_fdT {t : Nat → Nat} {k : Nat} (h : t k ≠ 0) (h1 : kj_op t k = 1) : kj_fd t (k + 1) = kj_fd t k + 1 := if_pos ⟨h, h1⟩
theorem kj_fdF {t : Nat → Nat} {k : Nat} (h : ¬ (t k ≠ 0 ∧ kj_op t k = 1)) : kj_fd t (k + 1) = kj_fd t k := if_neg h
theorem kj_enT {t : Nat → Nat} {k : Nat} (h : t k ≠ 0) (h1 : kj_op t k = 1) : kj_en t (k + 1) = k + 1 := if_pos ⟨h, h1⟩
theorem kj_enF {t : Nat → Nat} {k : Nat} (h : ¬ (t k ≠ 0 ∧ kj_op t k = 1)) : kj_en t (k + 1) = kj_en t k := if_neg h
theorem kj_op_pos (t : Nat → Nat) : ∀ k, 1 ≤ kj_op t k
  | 0 => Nat.le_refl _
  | k + 1 => by
    have ih := kj_op_pos t k
    rcases Nat.decEq (t k) 0 with h | h
    · rcases Nat.decEq (kj_op t k) 1 with h1 | h1
      · rw [kj_op2 h h1]; omega
      · rw [kj_op1 h h1]; exact Nat.le_refl _
    · rw [kj_op0 h]; omega
theorem kj_op_le (t : Nat → Nat) : ∀ k, kj_op t k ≤ k + 1
  | 0 => Nat.le_refl _
  | k + 1 => by
    have ih := kj_op_le t k
    rcases Nat.decEq (t k) 0 with h | h
    · rcases Nat.decEq (kj_op t k) 1 with h1 | h1
      · rw [kj_op2 h h1]; omega
      · rw [kj_op1 h h1]; omega
    · rw [kj_op0 h]; omega
theorem kj_fd_le (t : Nat → Nat) : ∀ k, kj_fd t k ≤ k
  | 0 => Nat.le_refl _
  | k + 1 => by
    have ih := kj_fd_le t k
    rcases Classical.em (t k ≠ 0 ∧ kj_op t k = 1) with h | h
    · rw [kj_fdT h.1 h.2]; omega
    · rw [kj_fdF h]; omega
theorem kj_en_le (t : Nat → Nat) : ∀ k, kj_en t k ≤ k
  | 0 => Nat.le_refl _
  | k + 1 => by
    have ih := kj_en_le t k
    rcases Classical.em (t k ≠ 0 ∧ kj_op t k = 1) with h | h
    · rw [kj_enT h.1 h.2]; exact Nat.le_refl _
    · rw [kj_enF h]; omega
theorem kj_fd_step (t : Nat → Nat) (k : Nat) : kj_fd t k ≤ kj_fd t (k + 1) := by
  rcases Classical.em (t k ≠ 0 ∧ kj_op t k = 1) with h | h
  · rw [kj_fdT h.1 h.2]; omega
  · rw [kj_fdF h]; exact Nat.le_refl _
theorem kj_fd_mono (t : Nat → Nat) (k : Nat) : ∀ d, kj_fd t k ≤ kj_fd t (k + d)
  | 0 => Nat.le_refl _
  | d + 1 => Nat.le_trans (kj_fd_mono t k d) (kj_fd_step t (k + d))
theorem kj_fd_mono' (t : Nat → Nat) {a b : Nat} (h : a ≤ b) : kj_fd t a ≤ kj_fd t b := by
  have e : b = a + (b - a) := by omega
  rw [e]; exact kj_fd_mono t a _
/-- at the end of the finished part the count is at rest, and below it a field is still to end -/
theorem kj_en_spec (t : Nat → Nat) : ∀ n, kj_op t (kj_en t n) = 1 ∧ kj_fd t (kj_en t n) = kj_fd t n ∧ ∀ k, k < kj_en t n → kj_fd t k < kj_fd t n
  | 0 => ⟨rfl, rfl, fun k hk => absurd hk (Nat.not_lt_zero k)⟩
  | n + 1 => by
    have ih := kj_en_spec t n
    rcases Classical.em (t n ≠ 0 ∧ kj_op t n = 1) with h | h
    · rw [kj_enT h.1 h.2]
      refine ⟨kj_op1 h.1 h.2, rfl, fun k hk => ?_⟩
      rw [kj_fdT h.1 h.2]
      have := kj_fd_mono' t (Nat.le_of_lt_succ hk)
      omega
    · rw [kj_enF h, kj_fdF h]
      exact ih
/-- how many values the tokens from k on leave, of the finished part of n tokens -/
def kj_dp (t : Nat → Nat) (n k : Nat) : Nat := kj_op t k + (kj_fd t n - kj_fd t k) - 1
theorem kj_dp_end (t : Nat → Nat) (n : Nat) : kj_dp t n (kj_en t n) = 0 := by
  have h := kj_en_spec t n
  unfold kj_dp
  rw [h.1, h.2.1]
  omega
theorem kj_dp_0 {t : Nat → Nat} {n k : Nat} (hk : k < kj_en t n) (h : t k = 0) : kj_dp t n (k + 1) = kj_dp t n k + 1 ∧ 2 ≤ kj_dp t n (k + 1) := by
  have hs := (kj_en_spec t n).2.2 k hk
  have hp := kj_op_pos t k
  unfold kj_dp
  rw [kj_op0 h, kj_fdF (fun z => z.1 h)]
  omega
theorem kj_dp_1 {t : Nat → Nat} {n k : Nat} (hk : k < kj_en t n) (h : t k ≠ 0) : kj_dp t n k = kj_dp t n (k + 1) + 1 := by
  have hs := (kj_en_spec t n).2.2 k hk
  have hp := kj_op_pos t k
  unfold kj_dp
  rcases Nat.decEq (kj_op t k) 1 with h1 | h1
  · rw [kj_op2 h h1, kj_fdF (fun z => h1 z.2)]
    omega
  · rw [kj_op1 h h1, kj_fdT h h1]
    omega
theorem kj_dp_le {t : Nat → Nat} {n : Nat} : ∀ d k, k + d = kj_en t n → kj_dp t n k ≤ d
  | 0, k, e => by
    have : k = kj_en t n := by omega
    rw [this, kj_dp_end]; exact Nat.le_refl _
  | d + 1, k, e => by
    have ih := kj_dp_le (t := t) (n := n) d (k + 1) (by omega)
    rcases Nat.decEq (t k) 0 with h | h
    · have := kj_dp_1 (n := n) (k := k) (by omega) h; omega
    · have := kj_dp_0 (n := n) (k := k) (by omega) h; omega
/-- the set of types that occur among the first tokens -/
def kj_oc (t : Nat → Nat) : Nat → Nat
  | 0 => 0
  | k + 1 => if t k < 7 then kj_oc t k else kj_oc t k ||| 2 ^ (t k - 7)
theorem kj_oc_lt {t : Nat → Nat} : ∀ {K : Nat}, (∀ k, k < K → t k ≤ 10) → kj_oc t K < 16
  | 0, _ => (by decide : (0 : Nat) < 16)
  | K + 1, h => by
    have ih := kj_oc_lt (t := t) (K := K) (fun k hk => h k (by omega))
    have hK := h K (by omega)
    show (if t K < 7 then _ else _) < 16
    rcases Nat.decLt (t K) 7 with z | z
    · rw [if_neg z]
      exact kj_or16 ih (kj_p16 (by omega))
    · rw [if_pos z]; exact ih
theorem kj_oc_tb {t : Nat → Nat} {j : Nat} : ∀ {K : Nat}, (kj_oc t K).testBit j = true ↔ ∃ k, k < K ∧ t k = 7 + j
  | 0 => by
    constructor
    · intro h
      rw [show kj_oc t 0 = 0 from rfl, kj_z1] at h
      exact absurd h (by decide)
    · rintro ⟨k, hk, _⟩; omega
  | K + 1 => by
    have ih := kj_oc_tb (t := t) (j := j) (K := K)
    rcases Nat.decLt (t K) 7 with z | z
    · have e : kj_oc t (K + 1) = kj_oc t K ||| 2 ^ (t K - 7) := if_neg z
      rw [e, Nat.testBit_or, kj_ptb, Bool.or_eq_true, ih, decide_eq_true_iff]
      constructor
      · rintro (⟨k, hk, h⟩ | h)
        · exact ⟨k, by omega, h⟩
        · exact ⟨K, by omega, by omega⟩
      · rintro ⟨k, hk, h⟩
        rcases Nat.lt_or_ge k K with y | y
        · exact Or.inl ⟨k, y, h⟩
        · have : k = K := by omega
          subst this
          exact Or.inr (by omega)
    · have e : kj_oc t (K + 1) = kj_oc t K := if_pos z
      rw [e, ih]
      constructor
      · rintro ⟨k, hk, h⟩; exact ⟨k, by omega, h⟩
      · rintro ⟨k, hk, h⟩
        rcases Nat.lt_or_ge k K with y | y
        · exact ⟨k, y, h⟩
        · have : k = K := by omega
          subst this
          omega
end
section
/-! ===== needs: Warshall by stages (X), four passes (Y), groups ===== -/
def kj_wa (m : Nat → Nat) : Nat → Nat → Nat
  | 0 => m
  | k + 1 => fun i => if (kj_wa m k i).testBit k = true then kj_wa m k i ||| kj_wa m k k else kj_wa m k i
theorem kj_wa_tb (m : Nat → Nat) (k i j : Nat) : (kj_wa m (k + 1) i).testBit j = true ↔ (kj_wa m k i).testBit j = true ∨ ((kj_wa m k i).testBit k = true ∧ (kj_wa m k k).testBit j = true) := by
  show (if (kj_wa m k i).testBit k = true then kj_wa m k i ||| kj_wa m k k else kj_wa m k i).testBit j = true ↔ _
  rcases Bool.eq_false_or_eq_true ((kj_wa m k i).testBit k) with h | h
  · rw [if_pos h, Nat.testBit_or, Bool.or_eq_true]
    constructor
    · rintro (a | a)
      · exact Or.inl a
      · exact Or.inr ⟨h, a⟩
    · rintro (a | a)
      · exact Or.inl a
      · exact Or.inr a.2
  · have hn : ¬ (kj_wa m k i).testBit k = true := by rw [h]; decide
    rw [if_neg hn]
    constructor
    · exact Or.inl
    · rintro (a | a)
      · exact a
      · exact absurd a.1 hn
theorem kj_wa_lt {m : Nat → Nat} (h : ∀ i, m i < 16) : ∀ k i, kj_wa m k i < 16
  | 0, i => h i
  | k + 1, i => by
    have a := kj_wa_lt h k i
    have b := kj_wa_lt h k k
    show (if _ then _ else _) < 16
    rcases Bool.eq_false_or_eq_true ((kj_wa m k i).testBit k) with z | z
    · rw [if_pos z]; exact kj_or16 a b
    · rw [if_neg (by rw [z]; decide)]; exact a
theorem kj_wa_up (m : Nat → Nat) {i j : Nat} (h : (m i).testBit j = true) : ∀ k, (kj_wa m k i).testBit j = true
  | 0 => h
  | k + 1 => (kj_wa_tb m k i j).mpr (Or.inl (kj_wa_up m h k))
theorem kj_wa_tr (m : Nat → Nat) : ∀ k a, a < k → ∀ i j, (kj_wa m k i).testBit a = true → (kj_wa m k a).testBit j = true → (kj_wa m k i).testBit j = true
  | 0, a, ha => absurd ha (Nat.not_lt_zero a)
  | k + 1, a, ha => by
    intro i j h1 h2
    rw [kj_wa_tb] at h1 h2 ⊢
    rcases Nat.lt_or_ge a k with z | z
    · have T := kj_wa_tr m k a z
      rcases h1 with h1 | h1
      · rcases h2 with h2 | h2
        · exact Or.inl (T i j h1 h2)
        · exact Or.inr ⟨T i k h1 h2.1, h2.2⟩
      · rcases h2 with h2 | h2
        · exact Or.inr ⟨h1.1, T k j h1.2 h2⟩
        · exact Or.inr ⟨h1.1, h2.2⟩
    · have e : a = k := by omega
      subst e
      have h1' : (kj_wa m a i).testBit a = true := h1.elim id (fun x => x.1)
      have h2' : (kj_wa m a a).testBit j = true := h2.elim id (fun x => x.2)
      exact Or.inr ⟨h1', h2'⟩
/-- no row has bit k: stage k does nothing -/
theorem kj_wa_no {m : Nat → Nat} {c : Nat} (h : ∀ i j, c ≤ j → (m i).testBit j = false) : ∀ k i j, c ≤ j → (kj_wa m k i).testBit j = false
  | 0, i, j, hj => h i j hj
  | k + 1, i, j, hj => by
    rcases Bool.eq_false_or_eq_true ((kj_wa m (k + 1) i).testBit j) with z | z
    · rw [kj_wa_tb, kj_wa_no h k i j hj, kj_wa_no h k k j hj] at z
      exact absurd z (by rintro (a | a); exact absurd a (by decide); exact absurd a.2 (by decide))
    · exact z
theorem kj_wa_stop {m : Nat → Nat} {c : Nat} (h : ∀ i j, c ≤ j → (m i).testBit j = false) : ∀ d i, kj_wa m (c + d) i = kj_wa m c i
  | 0, i => rfl
  | d + 1, i => by
    show (if (kj_wa m (c + d) i).testBit (c + d) = true then _ else kj_wa m (c + d) i) = _
    rw [if_neg (by rw [kj_wa_no h (c + d) i (c + d) (by omega)]; decide)]
    exact kj_wa_stop h d i
/-- a transitive set that holds the rows holds the stages -/
theorem kj_wa_in {m : Nat → Nat} {Q : Nat → Nat → Prop} (h : ∀ i j, (m i).testBit j = true → Q i j) (t : ∀ i a j, Q i a → Q a j → Q i j) : ∀ k i j, (kj_wa m k i).testBit j = true → Q i j
  | 0, i, j, x => h i j x
  | k + 1, i, j, x => by
    rw [kj_wa_tb] at x
    rcases x with x | x
    · exact kj_wa_in h t k i j x
    · exact t i k j (kj_wa_in h t k i k x.1) (kj_wa_in h t k k j x.2)
/-! Y's passes -/
def kj_ys (m : Nat → Nat) : Nat → Nat → Nat
  | 0 => m
  | q + 1 => kj_up (kj_ys m q) (q / 4) (if (kj_ys m q (q / 4)).testBit (q % 4) = true then kj_ys m q (q / 4) ||| kj_ys m q (q % 4) else kj_ys m q (q / 4))
def kj_yp (m : Nat → Nat) : Nat → Nat → Nat
  | 0 => m
  | p + 1 => kj_ys (kj_yp m p) 16
theorem kj_ys_at (m : Nat → Nat) (q : Nat) {j : Nat} : (kj_ys m (q + 1) (q / 4)).testBit j = true ↔ (kj_ys m q (q / 4)).testBit j = true ∨ ((kj_ys m q (q / 4)).testBit (q % 4) = true ∧ (kj_ys m q (q % 4)).testBit j = true) := by
  show (kj_up (kj_ys m q) (q / 4) _ (q / 4)).testBit j = true ↔ _
  rw [kj_us]
  rcases Bool.eq_false_or_eq_true ((kj_ys m q (q / 4)).testBit (q % 4)) with h | h
  · rw [if_pos h, Nat.testBit_or, Bool.or_eq_true]
    constructor
    · rintro (a | a)
      · exact Or.inl a
      · exact Or.inr ⟨h, a⟩
    · rintro (a | a)
      · exact Or.inl a
      · exact Or.inr a.2
  · have hn : ¬ (kj_ys m q (q / 4)).testBit (q % 4) = true := by rw [h]; decide
    rw [if_neg hn]
    constructor
    · exact Or.inl
    · rintro (a | a)
      · exact a
      · exact absurd a.1 hn
theorem kj_ys_ne (m : Nat → Nat) (q : Nat) {i : Nat} (h : i ≠ q / 4) : kj_ys m (q + 1) i = kj_ys m q i := kj_un h
theorem kj_ys_s (m : Nat → Nat) (q : Nat) {i j : Nat} (h : (kj_ys m q i).testBit j = true) : (kj_ys m (q + 1) i).testBit j = true := by
  rcases Nat.decEq i (q / 4) with e | e
  · rw [kj_ys_ne m q e]; exact h
  · subst e; exact (kj_ys_at m q).mpr (Or.inl h)
theorem kj_ys_up (m : Nat → Nat) (q : Nat) {i j : Nat} (h : (kj_ys m q i).testBit j = true) : ∀ d, (kj_ys m (q + d) i).testBit j = true
  | 0 => h
  | d + 1 => kj_ys_s m (q + d) (kj_ys_up m q h d)
theorem kj_ys_lt {m : Nat → Nat} (h : ∀ i, m i < 16) : ∀ q i, kj_ys m q i < 16
  | 0, i => h i
  | q + 1, i => by
    rcases Nat.decEq i (q / 4) with e | e
    · rw [kj_ys_ne m q e]; exact kj_ys_lt h q i
    · subst e
      have a := kj_ys_lt h q (q / 4)
      have b := kj_ys_lt h q (q % 4)
      show kj_up (kj_ys m q) (q / 4) _ (q / 4) < 16
      rw [kj_us]
      rcases Bool.eq_false_or_eq_true ((kj_ys m q (q / 4)).testBit (q % 4)) with z | z
      · rw [if_pos z]; exact kj_or16 a b
      · rw [if_neg (by rw [z]; decide)]; exact a
theorem kj_yp_lt {m : Nat → Nat} (h : ∀ i, m i < 16) : ∀ p i, kj_yp m p i < 16
  | 0, i => h i
  | p + 1, i => kj_ys_lt (kj_yp_lt h p) 16 i
theorem kj_ys_c (m : Nat → Nat) {i k j : Nat} (hi : i < 4) (hk : k < 4) (h1 : (m i).testBit k = true) (h2 : (m k).testBit j = true) : (kj_ys m 16 i).testBit j = true := by
  have a : (kj_ys m (0 + (4 * i + k)) i).testBit k = true := kj_ys_up m 0 h1 _
  have b : (kj_ys m (0 + (4 * i + k)) k).testBit j = true := kj_ys_up m 0 h2 _
  rw [Nat.zero_add] at a b
  have q1 : (4 * i + k) / 4 = i := by omega
  have q2 : (4 * i + k) % 4 = k := by omega
  have c : (kj_ys m (4 * i + k + 1) ((4 * i + k) / 4)).testBit j = true := (kj_ys_at m (4 * i + k)).mpr (Or.inr (by rw [q1, q2]; exact ⟨a, b⟩))
  rw [q1] at c
  have e := kj_ys_up m (4 * i + k + 1) c (15 - (4 * i + k))
  have f : 4 * i + k + 1 + (15 - (4 * i + k)) = 16 := by omega
  rw [f] at e
  exact e
theorem kj_ys_in {m : Nat → Nat} {Q : Nat → Nat → Prop} (h : ∀ i j, (m i).testBit j = true → Q i j) (t : ∀ i a j, Q i a → Q a j → Q i j) : ∀ q i j, (kj_ys m q i).testBit j = true → Q i j
  | 0, i, j, x => h i j x
  | q + 1, i, j, x => by
    rcases Nat.decEq i (q / 4) with e | e
    · rw [kj_ys_ne m q e] at x; exact kj_ys_in h t q i j x
    · subst e
      rcases (kj_ys_at m q).mp x with y | y
      · exact kj_ys_in h t q _ j y
      · exact t _ _ j (kj_ys_in h t q _ _ y.1) (kj_ys_in h t q _ j y.2)
theorem kj_yp_in {m : Nat → Nat} {Q : Nat → Nat → Prop} (h : ∀ i j, (m i).testBit j = true → Q i j) (t : ∀ i a j, Q i a → Q a j → Q i j) : ∀ p i j, (kj_yp m p i).testBit j = true → Q i j
  | 0, i, j, x => h i j x
  | p + 1, i, j, x => kj_ys_in (kj_yp_in h t p) t 16 i j x
theorem kj_wy {m : Nat → Nat} : ∀ k, k ≤ 4 → ∀ i j, i < 4 → (kj_wa m k i).testBit j = true → (kj_yp m k i).testBit j = true
  | 0, _, i, j, _, x => x
  | k + 1, hk, i, j, hi, x => by
    rw [kj_wa_tb] at x
    rcases x with x | x
    · have := kj_wy (m := m) k (by omega) i j hi x
      have e := kj_ys_up (kj_yp m k) 0 this 16
      rw [Nat.zero_add] at e
      exact e
    · exact kj_ys_c (kj_yp m k) hi (by omega) (kj_wy (m := m) k (by omega) i k hi x.1) (kj_wy (m := m) k (by omega) k j (by omega) x.2)
/-- the two closures are one, where rows hold bits below 4 alone -/
theorem kj_yw {m : Nat → Nat} (hm : ∀ i, m i < 16) {i : Nat} (hi : i < 4) : kj_yp m 4 i = kj_wa m 4 i := by
  apply Nat.eq_of_testBit_eq
  intro j
  have A : (kj_yp m 4 i).testBit j = true → (kj_wa m 4 i).testBit j = true := by
    intro x
    exact kj_yp_in (Q := fun i j => (kj_wa m 4 i).testBit j = true) (fun i j h => kj_wa_up m h 4) (fun i a j h1 h2 => by
      rcases Nat.lt_or_ge a 4 with z | z
      · exact kj_wa_tr m 4 a z i j h1 h2
      · rw [kj_hi (kj_wa_lt hm 4 i) z] at h1; exact absurd h1 (by decide)) 4 i j x
  have B := kj_wy (m := m) 4 (Nat.le_refl _) i j hi
  cases h1 : (kj_yp m 4 i).testBit j
  · cases h2 : (kj_wa m 4 i).testBit j
    · rfl
    · rw [B h2] at h1; exact absurd h1 (by decide)
  · rw [A h1]
/-! groups -/
def kj_gm (m : Nat → Nat) (i : Nat) : Nat → Nat
  | 0 => 2 ^ i
  | j + 1 => if (m i).testBit j = true ∧ (m j).testBit i = true then kj_gm m i j ||| 2 ^ j else kj_gm m i j
theorem kj_gm_lt {m : Nat → Nat} {i : Nat} (hi : i < 4) : ∀ {j : Nat}, j ≤ 4 → kj_gm m i j < 16
  | 0, _ => kj_p16 hi
  | j + 1, h => by
    have a := kj_gm_lt (m := m) hi (j := j) (by omega)
    show (if _ then _ else _) < 16
    rcases Classical.em ((m i).testBit j = true ∧ (m j).testBit i = true) with z | z
    · rw [if_pos z]; exact kj_or16 a (kj_p16 (by omega))
    · rw [if_neg z]; exact a
theorem kj_gm_tb {m : Nat → Nat} {i b : Nat} : ∀ {j : Nat}, (kj_gm m i j).testBit b = true ↔ b = i ∨ (b < j ∧ (m i).testBit b = true ∧ (m b).testBit i = true)
  | 0 => by
    show (2 ^ i).testBit b = true ↔ _
    rw [kj_ptb, decide_eq_true_iff]
    constructor
    · intro h; exact Or.inl h.symm
    · rintro (h | h)
      · exact h.symm
      · omega
  | j + 1 => by
    have ih := kj_gm_tb (m := m) (i := i) (b := b) (j := j)
    rcases Classical.em ((m i).testBit j = true ∧ (m j).testBit i = true) with z | z
    · have e : kj_gm m i (j + 1) = kj_gm m i j ||| 2 ^ j := if_pos z
      rw [e, Nat.testBit_or, Bool.or_eq_true, ih, kj_ptb, decide_eq_true_iff]
      constructor
      · rintro ((h | h) | h)
        · exact Or.inl h
        · exact Or.inr ⟨by omega, h.2⟩
        · subst h; exact Or.inr ⟨by omega, z⟩
      · rintro (h | h)
        · exact Or.inl (Or.inl h)
        · rcases Nat.lt_or_ge b j with y | y
          · exact Or.inl (Or.inr ⟨y, h.2⟩)
          · exact Or.inr (by omega)
    · have e : kj_gm m i (j + 1) = kj_gm m i j := if_neg z
      rw [e, ih]
      constructor
      · rintro (h | h)
        · exact Or.inl h
        · exact Or.inr ⟨by omega, h.2⟩
      · rintro (h | h)
        · exact Or.inl h
        · rcases Nat.lt_or_ge b j with y | y
          · exact Or.inr ⟨y, h.2⟩
          · have : b = j := by omega
            subst this
            exact absurd h.2 z
theorem kj_gm_stop {m : Nat → Nat} {c i : Nat} (h : ∀ j, c ≤ j → (m i).testBit j = false) : ∀ d, kj_gm m i (c + d) = kj_gm m i c
  | 0 => rfl
  | d + 1 => by
    show (if (m i).testBit (c + d) = true ∧ _ then _ else kj_gm m i (c + d)) = _
    rw [if_neg (by rw [h (c + d) (by omega)]; exact fun z => absurd z.1 (by decide))]
    exact kj_gm_stop h d
end
section
/-! ===== the declared data: count, arities, sizes, tokens ===== -/
abbrev kj_D : Type := Nat × (Nat → Nat) × (Nat → Nat) × (Nat → Nat)
abbrev kj_c (d : kj_D) : Nat := d.1
abbrev kj_ar (d : kj_D) : Nat → Nat := d.2.1
abbrev kj_sz (d : kj_D) : Nat → Nat := d.2.2.1
abbrev kj_tk (d : kj_D) : Nat → Nat := d.2.2.2
def kj_t (d : kj_D) (i : Nat) : Nat → Nat := fun k => kj_tk d (20 * i + k)
def kj_e (d : kj_D) (i : Nat) : Nat := kj_en (kj_t d i) (kj_sz d i)
def kj_f (d : kj_D) (i : Nat) : Nat := kj_fd (kj_t d i) (kj_sz d i)
def kj_sum (f : Nat → Nat) : Nat → Nat
  | 0 => 0
  | k + 1 => kj_sum f k + f k
def kj_okt (d : kj_D) (i k : Nat) : Prop := (kj_t d i k = 1 ∨ kj_t d i k = 2 → kj_t d i k ≤ kj_ar d i) ∧ (7 ≤ kj_t d i k → kj_t d i k - 7 < kj_c d)
def kj_ok (d : kj_D) : Prop := kj_c d ≤ 4 ∧ (∀ i, kj_ar d i ≤ 2) ∧ (∀ i, kj_sz d i ≤ 20) ∧ (∀ j, kj_tk d j ≤ 10) ∧ kj_sum (kj_ar d) (kj_c d) ≤ 6 ∧ ∀ i, i < kj_c d → ∀ k, k < kj_sz d i → kj_okt d i k
theorem kj_e_le (d : kj_D) (i : Nat) : kj_e d i ≤ kj_sz d i := kj_en_le _ _
theorem kj_e_20 {d : kj_D} (h : kj_ok d) (i : Nat) : kj_e d i ≤ 20 := Nat.le_trans (kj_e_le d i) (h.2.2.1 i)
theorem kj_f_20 {d : kj_D} (h : kj_ok d) (i : Nat) : kj_f d i ≤ 20 := Nat.le_trans (kj_fd_le _ _) (h.2.2.1 i)
theorem kj_t10 {d : kj_D} (h : kj_ok d) (i k : Nat) : kj_t d i k ≤ 10 := h.2.2.2.1 _
def kj_r0 (d : kj_D) (i : Nat) : Nat := if i < kj_c d then kj_oc (kj_t d i) (kj_e d i) else 0
def kj_nd (d : kj_D) (i : Nat) : Nat := kj_wa (kj_r0 d) 4 i
def kj_g (d : kj_D) (i : Nat) : Nat := kj_gm (kj_nd d) i 4
theorem kj_r0_t {d : kj_D} {i : Nat} (hi : i < kj_c d) : kj_r0 d i = kj_oc (kj_t d i) (kj_e d i) := if_pos hi
theorem kj_r0_f {d : kj_D} {i : Nat} (hi : kj_c d ≤ i) : kj_r0 d i = 0 := if_neg (by omega)
theorem kj_r0_lt {d : kj_D} (h : kj_ok d) (i : Nat) : kj_r0 d i < 16 := by
  rcases Nat.lt_or_ge i (kj_c d) with z | z
  · rw [kj_r0_t z]; exact kj_oc_lt (fun k _ => kj_t10 h i k)
  · rw [kj_r0_f z]; decide
theorem kj_r0_c {d : kj_D} (h : kj_ok d) (i j : Nat) (hj : kj_c d ≤ j) : (kj_r0 d i).testBit j = false := by
  rcases Nat.lt_or_ge i (kj_c d) with z | z
  · rw [kj_r0_t z]
    rcases Bool.eq_false_or_eq_true ((kj_oc (kj_t d i) (kj_e d i)).testBit j) with y | y
    · obtain ⟨k, hk, e⟩ := kj_oc_tb.mp y
      have := (h.2.2.2.2.2 i z k (Nat.lt_of_lt_of_le hk (kj_e_le d i))).2 (by omega)
      omega
    · exact y
  · rw [kj_r0_f z]; exact kj_z1 j
theorem kj_nd_lt {d : kj_D} (h : kj_ok d) (i : Nat) : kj_nd d i < 16 := kj_wa_lt (kj_r0_lt h) 4 i
theorem kj_nd_c {d : kj_D} (h : kj_ok d) (i j : Nat) (hj : kj_c d ≤ j) : (kj_nd d i).testBit j = false := kj_wa_no (kj_r0_c h) 4 i j hj
theorem kj_nd_lt4 {d : kj_D} (h : kj_ok d) {i j : Nat} (hj : (kj_nd d i).testBit j = true) : j < kj_c d := by
  rcases Nat.lt_or_ge j (kj_c d) with z | z
  · exact z
  · rw [kj_nd_c h i j z] at hj; exact absurd hj (by decide)
theorem kj_nd_tr {d : kj_D} (h : kj_ok d) {i a j : Nat} (h1 : (kj_nd d i).testBit a = true) (h2 : (kj_nd d a).testBit j = true) : (kj_nd d i).testBit j = true :=
  kj_wa_tr (kj_r0 d) 4 a (Nat.lt_of_lt_of_le (kj_nd_lt4 h h1) h.1) i j h1 h2
theorem kj_wa_z {m : Nat → Nat} {i : Nat} (h : m i = 0) : ∀ k, kj_wa m k i = 0
  | 0 => h
  | k + 1 => by
    show (if (kj_wa m k i).testBit k = true then _ else kj_wa m k i) = 0
    rw [if_neg (by rw [kj_wa_z h k, kj_z1]; decide)]
    exact kj_wa_z h k
theorem kj_nd_z {d : kj_D} {i : Nat} (hi : kj_c d ≤ i) : kj_nd d i = 0 := kj_wa_z (kj_r0_f hi) 4
/-- what a finished field names is needed -/
theorem kj_nd_of {d : kj_D} {i k : Nat} (hi : i < kj_c d) (hk : k < kj_e d i) (h7 : 7 ≤ kj_t d i k) : (kj_nd d i).testBit (kj_t d i k - 7) = true := by
  refine kj_wa_up (kj_r0 d) ?_ 4
  rw [kj_r0_t hi]
  exact kj_oc_tb.mpr ⟨k, hk, by omega⟩
theorem kj_g_lt (d : kj_D) {i : Nat} (hi : i < 4) : kj_g d i < 16 := kj_gm_lt hi (Nat.le_refl _)
theorem kj_g_tb {d : kj_D} (h : kj_ok d) {i b : Nat} : (kj_g d i).testBit b = true ↔ b = i ∨ ((kj_nd d i).testBit b = true ∧ (kj_nd d b).testBit i = true) := by
  refine kj_gm_tb.trans ⟨?_, ?_⟩
  · rintro (z | z)
    · exact Or.inl z
    · exact Or.inr z.2
  · rintro (z | z)
    · exact Or.inl z
    · exact Or.inr ⟨Nat.lt_of_lt_of_le (kj_nd_lt4 h z.1) h.1, z⟩
theorem kj_g_self {d : kj_D} (h : kj_ok d) (i : Nat) : (kj_g d i).testBit i = true := (kj_g_tb h).mpr (Or.inl rfl)
theorem kj_g_c {d : kj_D} (h : kj_ok d) {i b : Nat} (hi : i < kj_c d) (hb : (kj_g d i).testBit b = true) : b < kj_c d := by
  rcases (kj_g_tb h).mp hb with z | z
  · rw [z]; exact hi
  · exact kj_nd_lt4 h z.1
theorem kj_g_nd {d : kj_D} (h : kj_ok d) {i b j : Nat} (hb : (kj_g d i).testBit b = true) (hj : (kj_nd d i).testBit j = true) : (kj_nd d b).testBit j = true := by
  rcases (kj_g_tb h).mp hb with z | z
  · rw [z]; exact hj
  · exact kj_nd_tr h z.2 hj
theorem kj_g_sym {d : kj_D} (h : kj_ok d) {i b : Nat} (hb : (kj_g d i).testBit b = true) : (kj_g d b).testBit i = true := by
  rcases (kj_g_tb h).mp hb with z | z
  · rw [z]; exact kj_g_self h i
  · exact (kj_g_tb h).mpr (Or.inr ⟨z.2, z.1⟩)
theorem kj_g_tr {d : kj_D} (h : kj_ok d) {i b x : Nat} (hb : (kj_g d i).testBit b = true) (hx : (kj_g d b).testBit x = true) : (kj_g d i).testBit x = true := by
  rcases (kj_g_tb h).mp hb with z | z
  · rw [z] at hx; exact hx
  · rcases (kj_g_tb h).mp hx with y | y
    · rw [y]; exact hb
    · exact (kj_g_tb h).mpr (Or.inr ⟨kj_nd_tr h z.1 y.1, kj_nd_tr h y.2 z.2⟩)
theorem kj_g_eq {d : kj_D} (h : kj_ok d) {i b : Nat} (hb : (kj_g d i).testBit b = true) : kj_g d b = kj_g d i := by
  apply Nat.eq_of_testBit_eq
  intro x
  cases h1 : (kj_g d b).testBit x
  · cases h2 : (kj_g d i).testBit x
    · rfl
    · rw [kj_g_tr h (kj_g_sym h hb) h2] at h1; exact absurd h1 (by decide)
  · exact (kj_g_tr h hb h1).symm
/-! levels: how many types a type needs, itself among them -/
def kj_cn (P : Nat → Bool) : Nat → Nat
  | 0 => 0
  | k + 1 => kj_cn P k + (if P k = true then 1 else 0)
theorem kj_cn_mono {P Q : Nat → Bool} : ∀ {N : Nat}, (∀ k, k < N → P k = true → Q k = true) → kj_cn P N ≤ kj_cn Q N
  | 0, _ => Nat.le_refl _
  | N + 1, h => by
    have a := kj_cn_mono (P := P) (Q := Q) (N := N) (fun k hk => h k (by omega))
    show kj_cn P N + _ ≤ kj_cn Q N + _
    cases hp : P N
    · rw [if_neg (by decide)]; omega
    · rw [h N (by omega) hp]; omega
theorem kj_cn_lt {P Q : Nat → Bool} {a : Nat} (hp : P a = false) (hq : Q a = true) : ∀ {N : Nat}, (∀ k, k < N → P k = true → Q k = true) → a < N → kj_cn P N < kj_cn Q N
  | 0, _, h => by omega
  | N + 1, h, ha => by
    show kj_cn P N + _ < kj_cn Q N + _
    rcases Nat.lt_or_ge a N with z | z
    · have x := kj_cn_lt hp hq (N := N) (fun k hk => h k (by omega)) z
      cases hpN : P N
      · rw [if_neg (by decide)]; omega
      · rw [h N (by omega) hpN]; omega
    · have e : a = N := by omega
      subst e
      have x := kj_cn_mono (P := P) (Q := Q) (N := a) (fun k hk => h k (by omega))
      rw [hp, hq, if_neg (by decide), if_pos rfl]
      omega
theorem kj_cn_le (P : Nat → Bool) : ∀ N, kj_cn P N ≤ N
  | 0 => Nat.le_refl _
  | N + 1 => by
    have := kj_cn_le P N
    show kj_cn P N + _ ≤ N + 1
    cases P N
    · rw [if_neg (by decide)]; omega
    · rw [if_pos rfl]; omega
def kj_ms (d : kj_D) (i : Nat) : Nat := kj_cn (fun j => decide (j = i) || (kj_nd d i).testBit j) 4
theorem kj_ms_4 (d : kj_D) (i : Nat) : kj_ms d i ≤ 4 := kj_cn_le _ 4
theorem kj_ms_lt {d : kj_D} (h : kj_ok d) {i j : Nat} (hi : i < 4) (hj : (kj_nd d i).testBit j = true) (hg : ¬ (kj_g d i).testBit j = true) : kj_ms d j < kj_ms d i := by
  have hji : ¬ (kj_nd d j).testBit i = true := fun z => hg ((kj_g_tb h).mpr (Or.inr ⟨hj, z⟩))
  have hne : i ≠ j := fun z => hg (by rw [← z]; exact kj_g_self h i)
  refine kj_cn_lt (a := i) ?_ ?_ (fun k _ hk => ?_) hi
  · rw [Bool.or_eq_false_iff]
    refine ⟨decide_eq_false hne, ?_⟩
    cases e : (kj_nd d j).testBit i
    · rfl
    · exact absurd e hji
  · rw [Bool.or_eq_true]; exact Or.inl (decide_eq_true rfl)
  · rw [Bool.or_eq_true] at hk ⊢
    rcases hk with hk | hk
    · rw [of_decide_eq_true hk]; exact Or.inr hj
    · exact Or.inr (kj_nd_tr h hj hk)
/-! ===== codes of kinds, as the reference writes them: 0 for *, 1 + k, 5 + 4 * k + m ===== -/
def kj_co (k : Nat) : Nat := if k = 2 then 5 else if k = 3 then 2 else k
def kj_L (c : Nat) : Nat := if c < 5 then kj_co (c - 1) else kj_co ((c - 5) / 4)
def kj_R (c : Nat) : Nat := if c < 5 then 0 else 1 + (c - 5) % 4
theorem kj_inj' : ∀ c, c < 21 → ∀ b, b < 21 → c = 0 ∨ b = 0 ∨ ¬ kj_L c = kj_L b ∨ ¬ kj_R c = kj_R b ∨ c = b := by decide +kernel
theorem kj_inj (c : Nat) (hc : c < 21) (b : Nat) (hb : b < 21) (h1 : c ≠ 0) (h2 : b ≠ 0) (h3 : kj_L c = kj_L b) (h4 : kj_R c = kj_R b) : c = b := by
  rcases kj_inj' c hc b hb with z | z | z | z | z
  · exact absurd z h1
  · exact absurd z h2
  · exact absurd h3 z
  · exact absurd h4 z
  · exact z
theorem kj_co_inj : ∀ k, k < 4 → ∀ j, j < 4 → kj_co k = kj_co j → k = j := by decide +kernel
theorem kj_co_le : ∀ k, k < 4 → kj_co k ≤ 20 := by decide +kernel
theorem kj_L_le : ∀ c, c < 21 → kj_L c ≤ 20 := by decide +kernel
theorem kj_R_le : ∀ c, c < 21 → kj_R c ≤ 20 := by decide +kernel
theorem kj_L1 : ∀ k, k < 4 → kj_L (1 + k) = kj_co k ∧ kj_R (1 + k) = 0 := by decide +kernel
theorem kj_L5 : ∀ k, k < 4 → ∀ m, m < 4 → kj_L (5 + 4 * k + m) = kj_co k ∧ kj_R (5 + 4 * k + m) = 1 + m := by decide +kernel
def kj_ty (ar num : Nat → Nat) (j : Nat) : Nat := if ar j = 0 then 0 else if ar j = 1 then 1 + num (2 * j) else 5 + 4 * num (2 * j) + num (2 * j + 1)
def kj_lf (ar num : Nat → Nat) (i t : Nat) : Nat := if t < 3 then kj_co (num (2 * i + t - 1)) else if t < 7 then kj_co (t - 3) else kj_ty ar num (t - 7)
/-- the fields fit, worked out from the last token to the first: k tokens are to come, st are the values so far -/
def kj_ff (ar num : Nat → Nat) (i : Nat) (t : Nat → Nat) : Nat → List Nat → Prop
  | 0, st => ∀ x, x ∈ st → x = 0
  | k + 1, st => (t k = 0 → ∃ f a r, st = f :: a :: r ∧ f ≠ 0 ∧ a = kj_L f ∧ kj_ff ar num i t k (kj_R f :: r)) ∧ (t k ≠ 0 → kj_ff ar num i t k (kj_lf ar num i (t k) :: st))
def kj_Fit (d : kj_D) (num : Nat → Nat) (i : Nat) : Prop := kj_ff (kj_ar d) num i (kj_t d i) (kj_e d i) []
theorem kj_ff_cg {ar num num' : Nat → Nat} {i : Nat} {t : Nat → Nat} : ∀ {K : Nat}, (∀ k, k < K → t k ≠ 0 → kj_lf ar num i (t k) = kj_lf ar num' i (t k)) → ∀ st, kj_ff ar num i t K st → kj_ff ar num' i t K st
  | 0, _, st, x => x
  | K + 1, h, st, x => by
    have ih := kj_ff_cg (ar := ar) (num := num) (num' := num') (i := i) (t := t) (K := K) (fun k hk => h k (by omega))
    refine ⟨fun z => ?_, fun z => ?_⟩
    · obtain ⟨f, a, r, h1, h2, h3, h4⟩ := x.1 z
      exact ⟨f, a, r, h1, h2, h3, ih _ h4⟩
    · have := ih _ (x.2 z)
      rw [h K (by omega) z] at this
      exact this
/-- cell p of type j is told alike -/
def kj_ag (d : kj_D) (num num' : Nat → Nat) (j : Nat) : Prop := ∀ p, p < kj_ar d j → num (2 * j + p) = num' (2 * j + p)
theorem kj_ty_cg {d : kj_D} (h : kj_ok d) {num num' : Nat → Nat} {j : Nat} (a : kj_ag d num num' j) : kj_ty (kj_ar d) num j = kj_ty (kj_ar d) num' j := by
  have h2 := h.2.1 j
  unfold kj_ty
  rcases Nat.decEq (kj_ar d j) 0 with z | z
  · rw [if_neg z, if_neg z]
    have e0 : num (2 * j) = num' (2 * j) := a 0 (by omega)
    rcases Nat.decEq (kj_ar d j) 1 with y | y
    · have e1 : num (2 * j + 1) = num' (2 * j + 1) := a 1 (by omega)
      rw [if_neg y, if_neg y, e0, e1]
    · rw [if_pos y, if_pos y, e0]
  · rw [if_pos z, if_pos z]
theorem kj_lf_cg {d : kj_D} (h : kj_ok d) {num num' : Nat → Nat} {i k : Nat} (hi : i < kj_c d) (hk : k < kj_e d i) (h0 : kj_t d i k ≠ 0) (ai : kj_ag d num num' i) (an : ∀ j, (kj_nd d i).testBit j = true → kj_ag d num num' j) :
    kj_lf (kj_ar d) num i (kj_t d i k) = kj_lf (kj_ar d) num' i (kj_t d i k) := by
  have hv := h.2.2.2.2.2 i hi k (Nat.lt_of_lt_of_le hk (kj_e_le d i))
  have hn := fun h7 => kj_nd_of hi hk h7
  unfold kj_okt at hv
  generalize kj_t d i k = t at h0 hv hn
  unfold kj_lf
  rcases Nat.lt_or_ge t 3 with z | z
  · rw [if_pos z, if_pos z]
    have e := ai (t - 1) (by have := hv.1 (by omega); omega)
    have q : 2 * i + t - 1 = 2 * i + (t - 1) := by omega
    rw [q, e]
  · have z' : ¬ t < 3 := by omega
    rw [if_neg z', if_neg z']
    rcases Nat.lt_or_ge t 7 with y | y
    · rw [if_pos y, if_pos y]
    · have y' : ¬ t < 7 := by omega
      rw [if_neg y', if_neg y']
      exact kj_ty_cg h (an _ (hn y))
theorem kj_Fit_cg {d : kj_D} (h : kj_ok d) {num num' : Nat → Nat} {i : Nat} (hi : i < kj_c d) (ai : kj_ag d num num' i) (an : ∀ j, (kj_nd d i).testBit j = true → kj_ag d num num' j) (x : kj_Fit d num i) : kj_Fit d num' i :=
  kj_ff_cg (fun k hk h0 => kj_lf_cg h hi hk h0 ai an) [] x
theorem kj_ty_le {d : kj_D} (h : kj_ok d) {num : Nat → Nat} {j : Nat} (hn : ∀ p, p < kj_ar d j → num (2 * j + p) < 4) : kj_ty (kj_ar d) num j ≤ 20 := by
  have h2 := h.2.1 j
  unfold kj_ty
  rcases Nat.decEq (kj_ar d j) 0 with z | z
  · rw [if_neg z]
    have e0 : num (2 * j) < 4 := hn 0 (by omega)
    rcases Nat.decEq (kj_ar d j) 1 with y | y
    · have e1 : num (2 * j + 1) < 4 := hn 1 (by omega)
      rw [if_neg y]; omega
    · rw [if_pos y]; omega
  · rw [if_pos z]; omega
end
section
/-! ===== the graph of kinds: g = (number of nodes, sort, left, right, root) ===== -/
abbrev kj_G : Type := Nat × (Nat → Nat) × (Nat → Nat) × (Nat → Nat) × (Nat → Nat)
abbrev kj_N (g : kj_G) : Nat := g.1
abbrev kj_so (g : kj_G) : Nat → Nat := g.2.1
abbrev kj_le (g : kj_G) : Nat → Nat := g.2.2.1
abbrev kj_ri (g : kj_G) : Nat → Nat := g.2.2.2.1
abbrev kj_rt (g : kj_G) : Nat → Nat := g.2.2.2.2
abbrev kj_wr (g : kj_G) (rt : Nat → Nat) : kj_G := (kj_N g, kj_so g, kj_le g, kj_ri g, rt)
/-- the four numbered kinds lie at 0 .. 3 -/
def kj_Bs (g : kj_G) : Prop := 4 ≤ kj_N g ∧ kj_so g 0 = 1 ∧ kj_rt g 0 = 0 ∧ (kj_so g 1 = 2 ∧ kj_le g 1 = 0 ∧ kj_ri g 1 = 0) ∧ (kj_so g 2 = 2 ∧ kj_le g 2 = 0 ∧ kj_ri g 2 = 1) ∧ (kj_so g 3 = 2 ∧ kj_le g 3 = 1 ∧ kj_ri g 3 = 0)
def kj_Gi (g : kj_G) (n : Nat) : Prop := (kj_so g n = 2 → kj_so g (kj_rt g n) = 2) ∧ (kj_so g n = 1 → n = 0)
def kj_Gv (g : kj_G) : Prop := kj_Bs g ∧ ∀ n, n < kj_N g → kj_so g n ≤ 2 ∧ kj_le g n < kj_N g ∧ kj_ri g n < kj_N g ∧ kj_rt g n < kj_N g ∧ kj_rt g (kj_rt g n) = kj_rt g n ∧ kj_Gi g n
def kj_Cg (g : kj_G) : Prop := ∀ n m, n < kj_N g → m < kj_N g → kj_so g n = 2 → kj_so g m = 2 → kj_rt g n = kj_rt g m → kj_rt g (kj_le g n) = kj_rt g (kj_le g m) ∧ kj_rt g (kj_ri g n) = kj_rt g (kj_ri g m)
/-- V gives every node a kind that keeps to the graph -/
def kj_Md (g : kj_G) (V : Nat → Nat) : Prop := ∀ n, n < kj_N g → V n ≤ 20 ∧ (kj_so g n = 1 → V n = 0) ∧ (kj_so g n = 2 → V n ≠ 0 ∧ kj_L (V n) = V (kj_le g n) ∧ kj_R (V n) = V (kj_ri g n)) ∧ V n = V (kj_rt g n)
def kj_Ex (g h : kj_G) : Prop := kj_N g ≤ kj_N h ∧ (∀ n, n < kj_N g → kj_so h n = kj_so g n ∧ kj_le h n = kj_le g n ∧ kj_ri h n = kj_ri g n) ∧ ∀ a b, a < kj_N g → b < kj_N g → kj_rt g a = kj_rt g b → kj_rt h a = kj_rt h b
theorem kj_Ex_rf (g : kj_G) : kj_Ex g g := ⟨Nat.le_refl _, fun _ _ => ⟨rfl, rfl, rfl⟩, fun _ _ _ _ e => e⟩
theorem kj_Ex_tr {g h k : kj_G} (a : kj_Ex g h) (b : kj_Ex h k) : kj_Ex g k := by
  refine ⟨Nat.le_trans a.1 b.1, fun n hn => ?_, fun x y hx hy e => ?_⟩
  · have p := a.2.1 n hn
    have q := b.2.1 n (Nat.lt_of_lt_of_le hn a.1)
    exact ⟨q.1.trans p.1, q.2.1.trans p.2.1, q.2.2.trans p.2.2⟩
  · exact b.2.2 x y (Nat.lt_of_lt_of_le hx a.1) (Nat.lt_of_lt_of_le hy a.1) (a.2.2 x y hx hy e)
/-! ===== a node denotes a code ===== -/
def kj_Dn (g : kj_G) : Nat → Nat → Nat → Prop
  | 0, _, _ => False
  | f + 1, c, n => (c = 0 ∧ kj_so g (kj_rt g n) ≠ 2) ∨ (c ≠ 0 ∧ c ≤ 20 ∧ kj_so g (kj_rt g n) = 2 ∧ kj_Dn g f (kj_L c) (kj_le g (kj_rt g n)) ∧ kj_Dn g f (kj_R c) (kj_ri g (kj_rt g n)))
def kj_De (g : kj_G) (c n : Nat) : Prop := ∃ f, kj_Dn g f c n
theorem kj_Dn_s {g : kj_G} : ∀ f c n, kj_Dn g f c n → kj_Dn g (f + 1) c n
  | 0, _, _, h => False.elim h
  | f + 1, c, n, h => by
    rcases h with h | h
    · exact Or.inl h
    · exact Or.inr ⟨h.1, h.2.1, h.2.2.1, kj_Dn_s f _ _ h.2.2.2.1, kj_Dn_s f _ _ h.2.2.2.2⟩
theorem kj_Dn_up {g : kj_G} {f c n : Nat} (h : kj_Dn g f c n) : ∀ d, kj_Dn g (f + d) c n
  | 0 => h
  | d + 1 => kj_Dn_s _ _ _ (kj_Dn_up h d)
theorem kj_Dn_fn {g : kj_G} : ∀ f f' c c' n, kj_Dn g f c n → kj_Dn g f' c' n → c = c'
  | 0, _, _, _, _, h, _ => False.elim h
  | _ + 1, 0, _, _, _, _, h => False.elim h
  | f + 1, f' + 1, c, c', n, h, h' => by
    rcases h with h | h
    · rcases h' with h' | h'
      · rw [h.1, h'.1]
      · exact absurd h'.2.2.1 h.2
    · rcases h' with h' | h'
      · exact absurd h.2.2.1 h'.2
      · exact kj_inj c (by omega) c' (by omega) h.1 h'.1 (kj_Dn_fn f f' _ _ _ h.2.2.2.1 h'.2.2.2.1) (kj_Dn_fn f f' _ _ _ h.2.2.2.2 h'.2.2.2.2)
theorem kj_De_fn {g : kj_G} {c c' n : Nat} (h : kj_De g c n) (h' : kj_De g c' n) : c = c' := by
  obtain ⟨f, h⟩ := h
  obtain ⟨f', h'⟩ := h'
  exact kj_Dn_fn f f' c c' n h h'
theorem kj_De_rt {g : kj_G} {c n m : Nat} (e : kj_rt g n = kj_rt g m) (h : kj_De g c n) : kj_De g c m := by
  obtain ⟨f, h⟩ := h
  cases f with
  | zero => exact False.elim h
  | succ f =>
    refine ⟨f + 1, ?_⟩
    unfold kj_Dn at h ⊢
    rw [← e]
    exact h
theorem kj_De_0 {g : kj_G} {n : Nat} (h : kj_so g (kj_rt g n) ≠ 2) : kj_De g 0 n := ⟨1, Or.inl ⟨rfl, h⟩⟩
theorem kj_De_mk {g : kj_G} (v : kj_Gv g) (cg : kj_Cg g) {c m : Nat} (hm : m < kj_N g) (s : kj_so g m = 2) (h0 : c ≠ 0) (h20 : c ≤ 20) (l : kj_De g (kj_L c) (kj_le g m)) (r : kj_De g (kj_R c) (kj_ri g m)) : kj_De g c m := by
  have vm := v.2 m hm
  have e := cg m (kj_rt g m) hm vm.2.2.2.1 s (vm.2.2.2.2.2.1 s) vm.2.2.2.2.1.symm
  obtain ⟨f, l⟩ := kj_De_rt e.1 l
  obtain ⟨f', r⟩ := kj_De_rt e.2 r
  refine ⟨f + f' + 1, Or.inr ⟨h0, h20, vm.2.2.2.2.2.1 s, kj_Dn_up l f', ?_⟩⟩
  have := kj_Dn_up r f
  rw [Nat.add_comm] at this
  exact this
theorem kj_De_iv {g : kj_G} (v : kj_Gv g) (cg : kj_Cg g) {c m : Nat} (hm : m < kj_N g) (s : kj_so g m = 2) (h : kj_De g c m) : c ≠ 0 ∧ c ≤ 20 ∧ kj_De g (kj_L c) (kj_le g m) ∧ kj_De g (kj_R c) (kj_ri g m) := by
  have vm := v.2 m hm
  have e := cg m (kj_rt g m) hm vm.2.2.2.1 s (vm.2.2.2.2.2.1 s) vm.2.2.2.2.1.symm
  obtain ⟨f, h⟩ := h
  cases f with
  | zero => exact False.elim h
  | succ f =>
    rcases h with h | h
    · exact absurd (vm.2.2.2.2.2.1 s) h.2
    · exact ⟨h.1, h.2.1, kj_De_rt e.1.symm ⟨f, h.2.2.2.1⟩, kj_De_rt e.2.symm ⟨f, h.2.2.2.2⟩⟩
theorem kj_De_b {g : kj_G} (v : kj_Gv g) (cg : kj_Cg g) : ∀ k, k < 4 → kj_De g (kj_co k) k := by
  have b := v.1
  have d0 : kj_De g 0 0 := kj_De_0 (by rw [b.2.2.1, b.2.1]; decide)
  have d1 : kj_De g 1 1 := by
    refine kj_De_mk v cg (Nat.lt_of_lt_of_le (by decide) b.1) b.2.2.2.1.1 (by decide) (by decide) ?_ ?_
    · rw [b.2.2.2.1.2.1]; exact d0
    · rw [b.2.2.2.1.2.2]; exact d0
  have d2 : kj_De g 5 2 := by
    refine kj_De_mk v cg (Nat.lt_of_lt_of_le (by decide) b.1) b.2.2.2.2.1.1 (by decide) (by decide) ?_ ?_
    · rw [b.2.2.2.2.1.2.1]; exact d0
    · rw [b.2.2.2.2.1.2.2]; exact d1
  have d3 : kj_De g 2 3 := by
    refine kj_De_mk v cg (Nat.lt_of_lt_of_le (by decide) b.1) b.2.2.2.2.2.1 (by decide) (by decide) ?_ ?_
    · rw [b.2.2.2.2.2.2.1]; exact d1
    · rw [b.2.2.2.2.2.2.2]; exact d0
  intro k hk
  exact co_4 (P := fun k => kj_De g (kj_co k) k) d0 d1 d2 d3 hk
/-! what a model says of a node that denotes -/
theorem kj_Md_0 {g : kj_G} {V : Nat → Nat} (v : kj_Gv g) (M : kj_Md g V) {n : Nat} (hn : n < kj_N g) (s : kj_so g (kj_rt g n) = 2) : V n ≠ 0 ∧ kj_L (V n) = V (kj_le g (kj_rt g n)) ∧ kj_R (V n) = V (kj_ri g (kj_rt g n)) := by
  have m := M n hn
  rw [m.2.2.2]
  exact (M (kj_rt g n) (v.2 n hn).2.2.2.1).2.2.1 s
theorem kj_Md_De {g : kj_G} {V : Nat → Nat} (v : kj_Gv g) (M : kj_Md g V) {c n : Nat} (hn : n < kj_N g) (h : kj_De g c n) (h0 : c ≠ 0) : V n ≠ 0 ∧ n < kj_N g ∧ kj_L (V n) = V (kj_le g (kj_rt g n)) ∧ kj_R (V n) = V (kj_ri g (kj_rt g n)) ∧ kj_De g (kj_L c) (kj_le g (kj_rt g n)) ∧ kj_De g (kj_R c) (kj_ri g (kj_rt g n)) ∧ kj_le g (kj_rt g n) < kj_N g ∧ kj_ri g (kj_rt g n) < kj_N g := by
  obtain ⟨f, h⟩ := h
  cases f with
  | zero => exact False.elim h
  | succ f =>
    rcases h with h | h
    · exact absurd h.1 h0
    · have q := kj_Md_0 v M hn h.2.2.1
      have w := v.2 _ (v.2 n hn).2.2.2.1
      exact ⟨q.1, hn, q.2.1, q.2.2, ⟨f, h.2.2.2.1⟩, ⟨f, h.2.2.2.2⟩, w.2.1, w.2.2.1⟩
theorem kj_colr : ∀ k, k < 4 → (kj_co k = 0 → k = 0) ∧ (kj_co k ≠ 0 → 1 ≤ k ∧ (kj_R (kj_co k) ≠ 0 → k = 2) ∧ (kj_L (kj_co k) ≠ 0 → k = 3)) ∧ (kj_co k ≠ 0 → kj_L (kj_co k) = 0 ∨ (kj_L (kj_co k) = 1 ∧ kj_R (kj_co k) = 0)) ∧ (kj_co k ≠ 0 → kj_R (kj_co k) = 0 ∨ kj_R (kj_co k) = 1) := by decide +kernel
/-- a number that is read is least -/
theorem kj_nu_le {g : kj_G} {V : Nat → Nat} (v : kj_Gv g) (M : kj_Md g V) {n k j : Nat} (hn : n < kj_N g) (hk : k < 4) (hj : j < 4) (D : kj_De g (kj_co k) n) (e : V n = kj_co j) : k ≤ j := by
  have C := kj_colr j hj
  rcases Nat.lt_or_ge k 1 with z | z
  · omega
  · have h0 : kj_co k ≠ 0 := fun y => by have := (kj_colr k hk).1 y; omega
    have A := kj_Md_De v M hn D h0
    have cj : kj_co j ≠ 0 := by rw [← e]; exact A.1
    have B := C.2.1 cj
    rcases Nat.lt_or_ge k 2 with y | y
    · omega
    · rcases Nat.lt_or_ge k 3 with x | x
      · have ek : k = 2 := by omega
        subst ek
        have A2 := kj_Md_De v M A.2.2.2.2.2.2.2 A.2.2.2.2.2.1 (by decide)
        have := B.2.1 (by rw [← e, A.2.2.2.1]; exact A2.1)
        omega
      · have ek : k = 3 := by omega
        subst ek
        have A2 := kj_Md_De v M A.2.2.2.2.2.2.1 A.2.2.2.2.1 (by decide)
        have := B.2.2 (by rw [← e, A.2.2.1]; exact A2.1)
        omega
/-! ===== joining two roots ===== -/
def kj_lk (rt : Nat → Nat) (x y : Nat) : Nat → Nat := fun n => if rt n = x then y else rt n
theorem kj_lk_t {rt : Nat → Nat} {x y n : Nat} (h : rt n = x) : kj_lk rt x y n = y := if_pos h
theorem kj_lk_f {rt : Nat → Nat} {x y n : Nat} (h : rt n ≠ x) : kj_lk rt x y n = rt n := if_neg h
theorem kj_lk_Gv {g : kj_G} (v : kj_Gv g) {x y : Nat} (hx : x < kj_N g) (hy : y < kj_N g) (rx : kj_rt g x = x) (ry : kj_rt g y = y) (ne : x ≠ y) (h1 : kj_so g x ≠ 1) (h2 : kj_so g x = 2 → kj_so g y = 2) : kj_Gv (kj_wr g (kj_lk (kj_rt g) x y)) := by
  have b := v.1
  refine ⟨⟨b.1, b.2.1, ?_, b.2.2.2⟩, fun n hn => ?_⟩
  · show kj_lk (kj_rt g) x y 0 = 0
    rw [kj_lk_f (by rw [b.2.2.1]; intro z; rw [← z] at h1; exact h1 b.2.1), b.2.2.1]
  · have w := v.2 n hn
    refine ⟨w.1, w.2.1, w.2.2.1, ?_, ?_, And.intro ?_ w.2.2.2.2.2.2⟩
    · show kj_lk (kj_rt g) x y n < _
      rcases Nat.decEq (kj_rt g n) x with z | z
      · rw [kj_lk_f z]; exact w.2.2.2.1
      · rw [kj_lk_t z]; exact hy
    · show kj_lk (kj_rt g) x y (kj_lk (kj_rt g) x y n) = kj_lk (kj_rt g) x y n
      rcases Nat.decEq (kj_rt g n) x with z | z
      · rw [kj_lk_f z, kj_lk_f (by rw [w.2.2.2.2.1]; exact z), w.2.2.2.2.1]
      · rw [kj_lk_t z, kj_lk_f (by rw [ry]; exact fun q => ne q.symm), ry]
    · intro s
      show kj_so g (kj_lk (kj_rt g) x y n) = 2
      have s' := w.2.2.2.2.2.1 s
      rcases Nat.decEq (kj_rt g n) x with z | z
      · rw [kj_lk_f z]; exact s'
      · rw [kj_lk_t z]; rw [z] at s'; exact h2 s'
theorem kj_lk_Md {g : kj_G} {V : Nat → Nat} (M : kj_Md g V) {x y : Nat} (e : V x = V y) : kj_Md (kj_wr g (kj_lk (kj_rt g) x y)) V := by
  intro n hn
  have w := M n hn
  refine ⟨w.1, w.2.1, w.2.2.1, ?_⟩
  show V n = V (kj_lk (kj_rt g) x y n)
  rcases Nat.decEq (kj_rt g n) x with z | z
  · rw [kj_lk_f z]; exact w.2.2.2
  · rw [kj_lk_t z, w.2.2.2, z]; exact e
def kj_Rs (g : kj_G) (e : Nat → Nat) : Prop := ∀ n, n < kj_N g → e n = e (kj_rt g n)
theorem kj_lk_Rs {g : kj_G} {e : Nat → Nat} {x y : Nat} (hx : x < kj_N g) (rx : kj_rt g x = x) (R : kj_Rs (kj_wr g (kj_lk (kj_rt g) x y)) e) : kj_Rs g e ∧ e x = e y := by
  have ex : e x = e y := by
    have := R x hx
    rw [show kj_rt (kj_wr g (kj_lk (kj_rt g) x y)) x = y from kj_lk_t rx] at this
    exact this
  refine ⟨fun n hn => ?_, ex⟩
  have q := R n hn
  rcases Nat.decEq (kj_rt g n) x with z | z
  · rw [show kj_rt (kj_wr g (kj_lk (kj_rt g) x y)) n = kj_rt g n from kj_lk_f z] at q; exact q
  · rw [show kj_rt (kj_wr g (kj_lk (kj_rt g) x y)) n = y from kj_lk_t z] at q; rw [z, q, ex]
/-! ===== unification: what holds between two rounds ===== -/
def kj_Sn (g0 g : kj_G) (a0 b0 : Nat) (td : List (Nat × Nat)) : Prop := ∀ e : Nat → Nat, kj_Rs g e → (∀ p, p ∈ td → e p.1 = e p.2) →
  kj_Rs g0 e ∧ e a0 = e b0 ∧ ∀ n m, n < kj_N g → m < kj_N g → kj_so g n = 2 → kj_so g m = 2 → kj_rt g n = kj_rt g m → e (kj_le g n) = e (kj_le g m) ∧ e (kj_ri g n) = e (kj_ri g m)
def kj_Cn (g0 g : kj_G) (a0 b0 : Nat) (td : List (Nat × Nat)) : Prop := ∀ V : Nat → Nat, kj_Md g0 V → V a0 = V b0 → kj_Md g V ∧ ∀ p, p ∈ td → V p.1 = V p.2
/-- g is g0 with other roots; td are the pairs to come -/
def kj_UI (g0 g : kj_G) (a0 b0 : Nat) (td : List (Nat × Nat)) : Prop := g = kj_wr g0 (kj_rt g) ∧ kj_Gv g ∧ (∀ p, p ∈ td → p.1 < kj_N g ∧ p.2 < kj_N g) ∧ kj_Sn g0 g a0 b0 td ∧ kj_Cn g0 g a0 b0 td
theorem kj_UI_0 {g : kj_G} (v : kj_Gv g) (cg : kj_Cg g) {a b : Nat} (ha : a < kj_N g) (hb : b < kj_N g) : kj_UI g g a b [(a, b)] := by
  refine ⟨rfl, v, fun p hp => ?_, fun e R T => ?_, fun V M E => ⟨M, fun p hp => ?_⟩⟩
  · rw [List.mem_singleton.mp hp]; exact ⟨ha, hb⟩
  · refine ⟨R, T (a, b) (List.mem_singleton.mpr rfl), fun n m hn hm sn sm rr => ?_⟩
    have q := cg n m hn hm sn sm rr
    have wn := v.2 n hn
    have wm := v.2 m hm
    rw [R _ wn.2.1, R _ wm.2.1, q.1, R _ wn.2.2.1, R _ wm.2.2.1, q.2]
    exact ⟨rfl, rfl⟩
  · rw [List.mem_singleton.mp hp]; exact E
theorem kj_UI_eq {g0 g : kj_G} {a0 b0 a b : Nat} {td : List (Nat × Nat)} (U : kj_UI g0 g a0 b0 ((a, b) :: td)) (h : kj_rt g a = kj_rt g b) : kj_UI g0 g a0 b0 td := by
  obtain ⟨ug, uv, ut, us, uc⟩ := U
  have hab := ut (a, b) (List.mem_cons_self ..)
  refine ⟨ug, uv, fun p hp => ut p (List.mem_cons_of_mem _ hp), fun e R T => us e R (fun p hp => ?_), fun V M E => ?_⟩
  · rcases List.mem_cons.mp hp with z | z
    · rw [z]; show e a = e b; rw [R a hab.1, R b hab.2, h]
    · exact T p z
  · have q := uc V M E
    exact ⟨q.1, fun p hp => q.2 p (List.mem_cons_of_mem _ hp)⟩
theorem kj_UI_ln {g0 g : kj_G} {a0 b0 a b x y : Nat} {td : List (Nat × Nat)} (U : kj_UI g0 g a0 b0 ((a, b) :: td)) (hxy : (x = kj_rt g a ∧ y = kj_rt g b) ∨ (x = kj_rt g b ∧ y = kj_rt g a)) (ne : x ≠ y) (s : kj_so g x = 0) :
    kj_UI g0 (kj_wr g (kj_lk (kj_rt g) x y)) a0 b0 td := by
  obtain ⟨ug, uv, ut, us, uc⟩ := U
  have hab := ut (a, b) (List.mem_cons_self ..)
  have va := uv.2 a hab.1
  have vb := uv.2 b hab.2
  have hx : x < kj_N g := by rcases hxy with h | h <;> rw [h.1] <;> first | exact va.2.2.2.1 | exact vb.2.2.2.1
  have hy : y < kj_N g := by rcases hxy with h | h <;> rw [h.2] <;> first | exact vb.2.2.2.1 | exact va.2.2.2.1
  have rx : kj_rt g x = x := by rcases hxy with h | h <;> rw [h.1] <;> first | exact va.2.2.2.2.1 | exact vb.2.2.2.2.1
  have ry : kj_rt g y = y := by rcases hxy with h | h <;> rw [h.2] <;> first | exact vb.2.2.2.2.1 | exact va.2.2.2.2.1
  refine ⟨?_, kj_lk_Gv uv hx hy rx ry ne (by rw [s]; decide) (by rw [s]; exact fun z => absurd z (by decide)), fun p hp => ut p (List.mem_cons_of_mem _ hp), fun e R T => ?_, fun V M E => ?_⟩
  · have e1 := ug
    generalize kj_rt g = r at e1
    rw [e1]
  · have Q := kj_lk_Rs hx rx R
    have hE : e a = e b := by
      rw [Q.1 a hab.1, Q.1 b hab.2]
      rcases hxy with h | h
      · rw [← h.1, ← h.2]; exact Q.2
      · rw [← h.1, ← h.2]; exact Q.2.symm
    have S := us e Q.1 (fun p hp => by
      rcases List.mem_cons.mp hp with z | z
      · rw [z]; exact hE
      · exact T p z)
    refine ⟨S.1, S.2.1, fun n m hn hm sn sm rr => ?_⟩
    have cn : kj_rt g n ≠ x := fun z => by
      have := (uv.2 n hn).2.2.2.2.2.1 sn
      rw [z, s] at this
      exact absurd this (by decide)
    have cm : kj_rt g m ≠ x := fun z => by
      have := (uv.2 m hm).2.2.2.2.2.1 sm
      rw [z, s] at this
      exact absurd this (by decide)
    have r2 : kj_lk (kj_rt g) x y n = kj_lk (kj_rt g) x y m := rr
    rw [kj_lk_f cn, kj_lk_f cm] at r2
    exact S.2.2 n m hn hm sn sm r2
  · have q := uc V M E
    have hV : V a = V b := q.2 (a, b) (List.mem_cons_self ..)
    rw [(q.1 a hab.1).2.2.2, (q.1 b hab.2).2.2.2] at hV
    refine ⟨kj_lk_Md q.1 ?_, fun p hp => q.2 p (List.mem_cons_of_mem _ hp)⟩
    rcases hxy with h | h
    · rw [h.1, h.2]; exact hV
    · rw [h.1, h.2]; exact hV.symm
theorem kj_UI_ar {g0 g : kj_G} {a0 b0 a b x y : Nat} {td : List (Nat × Nat)} (U : kj_UI g0 g a0 b0 ((a, b) :: td)) (ex : x = kj_rt g a) (ey : y = kj_rt g b) (ne : x ≠ y) (sx : kj_so g x = 2) (sy : kj_so g y = 2) :
    kj_UI g0 (kj_wr g (kj_lk (kj_rt g) x y)) a0 b0 ((kj_le g x, kj_le g y) :: (kj_ri g x, kj_ri g y) :: td) := by
  obtain ⟨ug, uv, ut, us, uc⟩ := U
  have hab := ut (a, b) (List.mem_cons_self ..)
  have va := uv.2 a hab.1
  have vb := uv.2 b hab.2
  have hx : x < kj_N g := by rw [ex]; exact va.2.2.2.1
  have hy : y < kj_N g := by rw [ey]; exact vb.2.2.2.1
  have rx : kj_rt g x = x := by rw [ex]; exact va.2.2.2.2.1
  have ry : kj_rt g y = y := by rw [ey]; exact vb.2.2.2.2.1
  refine ⟨?_, kj_lk_Gv uv hx hy rx ry ne (by rw [sx]; decide) (fun _ => sy), fun p hp => ?_, fun e R T => ?_, fun V M E => ?_⟩
  · have e1 := ug
    generalize kj_rt g = r at e1
    rw [e1]
  · rcases List.mem_cons.mp hp with z | z
    · rw [z]; exact ⟨(uv.2 x hx).2.1, (uv.2 y hy).2.1⟩
    · rcases List.mem_cons.mp z with w | w
      · rw [w]; exact ⟨(uv.2 x hx).2.2.1, (uv.2 y hy).2.2.1⟩
      · exact ut p (List.mem_cons_of_mem _ w)
  · have Q := kj_lk_Rs hx rx R
    have T1 : e (kj_le g x) = e (kj_le g y) := T (kj_le g x, kj_le g y) (List.mem_cons_self ..)
    have T2 : e (kj_ri g x) = e (kj_ri g y) := T (kj_ri g x, kj_ri g y) (List.mem_cons_of_mem _ (List.mem_cons_self ..))
    have S := us e Q.1 (fun p hp => by
      rcases List.mem_cons.mp hp with z | z
      · rw [z]; show e a = e b; rw [Q.1 a hab.1, Q.1 b hab.2, ← ex, ← ey]; exact Q.2
      · exact T p (List.mem_cons_of_mem _ (List.mem_cons_of_mem _ z)))
    refine ⟨S.1, S.2.1, fun n m hn hm sn sm rr => ?_⟩
    have nx : ∀ n, n < kj_N g → kj_so g n = 2 → kj_rt g n = x → e (kj_le g n) = e (kj_le g y) ∧ e (kj_ri g n) = e (kj_ri g y) := by
      intro n hn sn z
      have q := S.2.2 n x hn hx sn sx (z.trans rx.symm)
      exact ⟨q.1.trans T1, q.2.trans T2⟩
    have ny : ∀ n, n < kj_N g → kj_so g n = 2 → kj_rt g n = y → e (kj_le g n) = e (kj_le g y) ∧ e (kj_ri g n) = e (kj_ri g y) := by
      intro n hn sn z
      exact S.2.2 n y hn hy sn sy (z.trans ry.symm)
    have r2 : kj_lk (kj_rt g) x y n = kj_lk (kj_rt g) x y m := rr
    rcases Nat.decEq (kj_rt g n) x with zn | zn
    · rw [kj_lk_f zn] at r2
      rcases Nat.decEq (kj_rt g m) x with zm | zm
      · rw [kj_lk_f zm] at r2
        exact S.2.2 n m hn hm sn sm r2
      · rw [kj_lk_t zm] at r2
        have A := ny n hn sn r2
        have B := nx m hm sm zm
        exact ⟨A.1.trans B.1.symm, A.2.trans B.2.symm⟩
    · rw [kj_lk_t zn] at r2
      have A := nx n hn sn zn
      rcases Nat.decEq (kj_rt g m) x with zm | zm
      · rw [kj_lk_f zm] at r2
        have B := ny m hm sm r2.symm
        exact ⟨A.1.trans B.1.symm, A.2.trans B.2.symm⟩
      · have B := nx m hm sm zm
        exact ⟨A.1.trans B.1.symm, A.2.trans B.2.symm⟩
  · have q := uc V M E
    have hV : V a = V b := q.2 (a, b) (List.mem_cons_self ..)
    rw [(q.1 a hab.1).2.2.2, (q.1 b hab.2).2.2.2, ← ex, ← ey] at hV
    have mx := (q.1 x hx).2.2.1 sx
    have my := (q.1 y hy).2.2.1 sy
    refine ⟨kj_lk_Md q.1 hV, fun p hp => ?_⟩
    rcases List.mem_cons.mp hp with z | z
    · rw [z]; show V (kj_le g x) = V (kj_le g y); rw [← mx.2.1, ← my.2.1, hV]
    · rcases List.mem_cons.mp z with w | w
      · rw [w]; show V (kj_ri g x) = V (kj_ri g y); rw [← mx.2.2, ← my.2.2, hV]
      · exact q.2 p (List.mem_cons_of_mem _ w)
theorem kj_012 {n : Nat} (h : n ≤ 2) (h0 : n ≠ 0) : n = 1 ∨ n = 2 := by omega
theorem kj_UI_no {g0 g : kj_G} {a0 b0 a b x y : Nat} {td : List (Nat × Nat)} (U : kj_UI g0 g a0 b0 ((a, b) :: td)) (ex : x = kj_rt g a) (ey : y = kj_rt g b) (ne : x ≠ y) (sx : kj_so g x ≠ 0) (sy : kj_so g y ≠ 0) (h : kj_so g x ≠ kj_so g y ∨ kj_so g x = 1) :
    ∀ V : Nat → Nat, kj_Md g0 V → V a0 ≠ V b0 := by
  intro V M E
  obtain ⟨ug, uv, ut, us, uc⟩ := U
  have hab := ut (a, b) (List.mem_cons_self ..)
  have va := uv.2 a hab.1
  have vb := uv.2 b hab.2
  have hx : x < kj_N g := by rw [ex]; exact va.2.2.2.1
  have hy : y < kj_N g := by rw [ey]; exact vb.2.2.2.1
  have q := uc V M E
  have hV : V a = V b := q.2 (a, b) (List.mem_cons_self ..)
  rw [(q.1 a hab.1).2.2.2, (q.1 b hab.2).2.2.2, ← ex, ← ey] at hV
  have mx := q.1 x hx
  have my := q.1 y hy
  have wx := uv.2 x hx
  have wy := uv.2 y hy
  have bx : kj_so g x = 1 ∨ kj_so g x = 2 := kj_012 wx.1 sx
  have by' : kj_so g y = 1 ∨ kj_so g y = 2 := kj_012 wy.1 sy
  rcases bx with z | z
  · rcases by' with w | w
    · exact ne ((wx.2.2.2.2.2.2 z).trans (wy.2.2.2.2.2.2 w).symm)
    · exact (my.2.2.1 w).1 (by rw [← hV]; exact mx.2.1 z)
  · rcases by' with w | w
    · exact (mx.2.2.1 z).1 (by rw [hV]; exact my.2.1 w)
    · rcases h with h | h
      · exact h (z.trans w.symm)
      · rw [z] at h; exact absurd h (by decide)
/-- when no pair is left -/
theorem kj_UI_end {g0 g : kj_G} {a0 b0 : Nat} (v0 : kj_Gv g0) (U : kj_UI g0 g a0 b0 []) : kj_Gv g ∧ kj_Cg g ∧ kj_Ex g0 g ∧ kj_rt g a0 = kj_rt g b0 ∧ ∀ V, kj_Md g0 V → V a0 = V b0 → kj_Md g V := by
  obtain ⟨ug, uv, ut, us, uc⟩ := U
  have S := us (kj_rt g) (fun n hn => ((uv.2 n hn).2.2.2.2.1).symm) (fun p hp => absurd hp List.not_mem_nil)
  have eN : kj_N g = kj_N g0 := by rw [ug]
  have e1 : kj_so g = kj_so g0 := by rw [ug]
  have e2 : kj_le g = kj_le g0 := by rw [ug]
  have e3 : kj_ri g = kj_ri g0 := by rw [ug]
  refine ⟨uv, S.2.2, ⟨Nat.le_of_eq eN.symm, fun n hn => ?_, fun a b ha hb e => ?_⟩, S.2.1, fun V M E => (uc V M E).1⟩
  · rw [e1, e2, e3]; exact ⟨rfl, rfl, rfl⟩
  · rw [S.1 a ha, S.1 b hb, e]
/-! ===== new nodes ===== -/
abbrev kj_nw (g : kj_G) (s l r : Nat) : kj_G := (kj_N g + 1, kj_up (kj_so g) (kj_N g) s, kj_up (kj_le g) (kj_N g) l, kj_up (kj_ri g) (kj_N g) r, kj_up (kj_rt g) (kj_N g) (kj_N g))
theorem kj_nw_lo {g : kj_G} {s l r n : Nat} (h : n < kj_N g) : kj_so (kj_nw g s l r) n = kj_so g n ∧ kj_le (kj_nw g s l r) n = kj_le g n ∧ kj_ri (kj_nw g s l r) n = kj_ri g n ∧ kj_rt (kj_nw g s l r) n = kj_rt g n := by
  have e : n ≠ kj_N g := by omega
  exact ⟨kj_un e, kj_un e, kj_un e, kj_un e⟩
theorem kj_nw_at {g : kj_G} {s l r : Nat} : kj_so (kj_nw g s l r) (kj_N g) = s ∧ kj_le (kj_nw g s l r) (kj_N g) = l ∧ kj_ri (kj_nw g s l r) (kj_N g) = r ∧ kj_rt (kj_nw g s l r) (kj_N g) = kj_N g := ⟨kj_us, kj_us, kj_us, kj_us⟩
theorem kj_nw_Gv {g : kj_G} (v : kj_Gv g) {s l r : Nat} (hs : s = 0 ∨ s = 2) (hl : l < kj_N g) (hr : r < kj_N g) : kj_Gv (kj_nw g s l r) := by
  have b := v.1
  have L := fun n h => kj_nw_lo (g := g) (s := s) (l := l) (r := r) (n := n) h
  have l0 := L 0 (Nat.lt_of_lt_of_le (by decide) b.1)
  have l1 := L 1 (Nat.lt_of_lt_of_le (by decide) b.1)
  have l2 := L 2 (Nat.lt_of_lt_of_le (by decide) b.1)
  have l3 := L 3 (Nat.lt_of_lt_of_le (by decide) b.1)
  refine ⟨⟨Nat.le_succ_of_le b.1, l0.1.trans b.2.1, l0.2.2.2.trans b.2.2.1, ⟨l1.1.trans b.2.2.2.1.1, l1.2.1.trans b.2.2.2.1.2.1, l1.2.2.1.trans b.2.2.2.1.2.2⟩, ⟨l2.1.trans b.2.2.2.2.1.1, l2.2.1.trans b.2.2.2.2.1.2.1, l2.2.2.1.trans b.2.2.2.2.1.2.2⟩, ⟨l3.1.trans b.2.2.2.2.2.1, l3.2.1.trans b.2.2.2.2.2.2.1, l3.2.2.1.trans b.2.2.2.2.2.2.2⟩⟩, fun n hn => ?_⟩
  have hn' : n < kj_N g + 1 := hn
  rcases Nat.lt_or_ge n (kj_N g) with z | z
  · have w := v.2 n z
    have q := L n z
    have q' := L _ w.2.2.2.1
    have gi : kj_Gi (kj_nw g s l r) n := by
      unfold kj_Gi
      rw [q.1, q.2.2.2, q'.1]
      exact ⟨w.2.2.2.2.2.1, w.2.2.2.2.2.2⟩
    rw [q.1, q.2.1, q.2.2.1, q.2.2.2, q'.2.2.2]
    exact ⟨w.1, Nat.lt_succ_of_lt w.2.1, Nat.lt_succ_of_lt w.2.2.1, Nat.lt_succ_of_lt w.2.2.2.1, w.2.2.2.2.1, gi⟩
  · have e : n = kj_N g := by omega
    subst e
    have q := kj_nw_at (g := g) (s := s) (l := l) (r := r)
    have gi : kj_Gi (kj_nw g s l r) (kj_N g) := by
      unfold kj_Gi
      rw [q.2.2.2, q.1]
      exact ⟨id, fun h => by omega⟩
    rw [q.1, q.2.1, q.2.2.1, q.2.2.2, q.2.2.2]
    exact ⟨by omega, Nat.lt_succ_of_lt hl, Nat.lt_succ_of_lt hr, Nat.lt_succ_self _, rfl, gi⟩
theorem kj_nw_Cg {g : kj_G} (v : kj_Gv g) (cg : kj_Cg g) {s l r : Nat} : kj_Cg (kj_nw g s l r) := by
  have L := fun n h => kj_nw_lo (g := g) (s := s) (l := l) (r := r) (n := n) h
  have q := kj_nw_at (g := g) (s := s) (l := l) (r := r)
  intro n m hn hm sn sm rr
  have hn' : n < kj_N g + 1 := hn
  have hm' : m < kj_N g + 1 := hm
  rcases Nat.lt_or_ge n (kj_N g) with z | z
  · have qn := L n z
    have wn := v.2 n z
    rcases Nat.lt_or_ge m (kj_N g) with y | y
    · have qm := L m y
      have wm := v.2 m y
      rw [qn.1] at sn
      rw [qm.1] at sm
      rw [qn.2.2.2, qm.2.2.2] at rr
      have k := cg n m z y sn sm rr
      rw [qn.2.1, qm.2.1, qn.2.2.1, qm.2.2.1, (L _ wn.2.1).2.2.2, (L _ wm.2.1).2.2.2, (L _ wn.2.2.1).2.2.2, (L _ wm.2.2.1).2.2.2]
      exact k
    · have e : m = kj_N g := by omega
      subst e
      rw [qn.2.2.2, q.2.2.2] at rr
      have := wn.2.2.2.1
      omega
  · have e : n = kj_N g := by omega
    subst e
    rcases Nat.lt_or_ge m (kj_N g) with y | y
    · have qm := L m y
      have wm := v.2 m y
      rw [qm.2.2.2, q.2.2.2] at rr
      have := wm.2.2.2.1
      omega
    · have e : m = kj_N g := by omega
      subst e
      exact ⟨rfl, rfl⟩
theorem kj_nw_Ex (g : kj_G) (s l r : Nat) : kj_Ex g (kj_nw g s l r) := by
  refine ⟨Nat.le_succ _, fun n hn => ?_, fun a b ha hb e => ?_⟩
  · have q := kj_nw_lo (g := g) (s := s) (l := l) (r := r) hn
    exact ⟨q.1, q.2.1, q.2.2.1⟩
  · rw [(kj_nw_lo (g := g) (s := s) (l := l) (r := r) ha).2.2.2, (kj_nw_lo (g := g) (s := s) (l := l) (r := r) hb).2.2.2]; exact e
/-- a model takes a new node at any kind that fits it -/
theorem kj_nw_Md {g : kj_G} (v : kj_Gv g) {V : Nat → Nat} (M : kj_Md g V) {s l r c : Nat} (hc : c ≤ 20) (hl : l < kj_N g) (hr : r < kj_N g) (h1 : s ≠ 1) (h2 : s = 2 → c ≠ 0 ∧ kj_L c = V l ∧ kj_R c = V r) : kj_Md (kj_nw g s l r) (kj_up V (kj_N g) c) := by
  have L := fun n h => kj_nw_lo (g := g) (s := s) (l := l) (r := r) (n := n) h
  have q := kj_nw_at (g := g) (s := s) (l := l) (r := r)
  have U : ∀ n, n < kj_N g → kj_up V (kj_N g) c n = V n := fun n hn => kj_un (by omega)
  intro n hn
  have hn' : n < kj_N g + 1 := hn
  rcases Nat.lt_or_ge n (kj_N g) with z | z
  · have w := v.2 n z
    have m := M n z
    have qn := L n z
    rw [qn.1, qn.2.1, qn.2.2.1, qn.2.2.2, U n z, U _ w.2.1, U _ w.2.2.1, U _ w.2.2.2.1]
    exact m
  · have e : n = kj_N g := by omega
    subst e
    rw [q.1, q.2.1, q.2.2.1, q.2.2.2, kj_us, U l hl, U r hr]
    exact ⟨hc, fun h => absurd h h1, h2, rfl⟩
/-! ===== links: par, and the count of hops h ===== -/
def kj_nr (par : Nat → Nat) : Nat → Nat
  | 0 => 0
  | n + 1 => kj_nr par n + (if par n = n then 1 else 0)
theorem kj_nr_le (par : Nat → Nat) : ∀ N, kj_nr par N ≤ N
  | 0 => Nat.le_refl _
  | N + 1 => by
    have := kj_nr_le par N
    show kj_nr par N + _ ≤ N + 1
    rcases Nat.decEq (par N) N with z | z
    · rw [if_neg z]; omega
    · rw [if_pos z]; omega
theorem kj_nr_hi {par : Nat → Nat} {x y : Nat} : ∀ {N : Nat}, N ≤ x → kj_nr (kj_up par x y) N = kj_nr par N
  | 0, _ => rfl
  | N + 1, h => by
    show kj_nr (kj_up par x y) N + _ = kj_nr par N + _
    rw [kj_nr_hi (par := par) (x := x) (y := y) (N := N) (by omega), kj_un (f := par) (k := x) (j := N) (by omega)]
theorem kj_nr_up {par : Nat → Nat} {x y : Nat} (h1 : par x = x) (h2 : y ≠ x) : ∀ {N : Nat}, x < N → kj_nr (kj_up par x y) N + 1 = kj_nr par N
  | 0, h => by omega
  | N + 1, h => by
    show kj_nr (kj_up par x y) N + _ + 1 = kj_nr par N + _
    rcases Nat.lt_or_ge x N with z | z
    · have ih := kj_nr_up (par := par) h1 h2 (N := N) z
      rw [kj_un (f := par) (k := x) (j := N) (by omega)]
      omega
    · have e : x = N := by omega
      subst e
      rw [kj_nr_hi (Nat.le_refl _), kj_us, if_neg h2, if_pos h1]
def kj_Fo (N : Nat) (par rt h : Nat → Nat) : Prop := ∀ n, n < N → (par n = n → rt n = n ∧ h n = 0) ∧ (par n ≠ n → par n < N ∧ rt n = rt (par n) ∧ h n = h (par n) + 1) ∧ h n + kj_nr par N ≤ N ∧ (rt n = n → par n = n)
/-- the link array tells the roots rt; R of the N nodes are roots -/
def kj_LK (l : Nat → Int32) (N : Nat) (rt : Nat → Nat) (R : Nat) : Prop := ∃ par h : Nat → Nat, kj_Fo N par rt h ∧ R = kj_nr par N ∧ ∀ n, n < N → l n = if par n = n then -1 else nI (par n)
theorem kj_LK_ln {l : Nat → Int32} {N R x y : Nat} {rt : Nat → Nat} (H : kj_LK l N rt R) (hx : x < N) (hy : y < N) (rx : rt x = x) (ry : rt y = y) (ne : x ≠ y) : ∃ R', R' + 1 = R ∧ kj_LK (upd l x (nI y)) N (kj_lk rt x y) R' := by
  obtain ⟨par, h, F, eR, el⟩ := H
  have px : par x = x := (F x hx).2.2.2 rx
  have py : par y = y := (F y hy).2.2.2 ry
  have hc := kj_nr_up (par := par) (y := y) px (fun z => ne z.symm) hx
  refine ⟨kj_nr (kj_up par x y) N, by omega, kj_up par x y, fun n => if rt n = x then h n + 1 else h n, fun n hn => ?_, rfl, fun n hn => ?_⟩
  · have w := F n hn
    rcases Nat.decEq n x with z | z
    · rw [kj_un z]
      refine ⟨fun e => ?_, fun e => ?_, ?_, fun e => ?_⟩
      · have q := w.1 e
        have nx : rt n ≠ x := by rw [q.1]; exact z
        rw [kj_lk_f nx]
        refine ⟨q.1, ?_⟩
        show (if rt n = x then h n + 1 else h n) = 0
        rw [if_neg nx]
        exact q.2
      · have q := w.2.1 e
        refine ⟨q.1, ?_, ?_⟩
        · rcases Nat.decEq (rt n) x with k | k
          · rw [kj_lk_f k, kj_lk_f (by rw [← q.2.1]; exact k)]; exact q.2.1
          · rw [kj_lk_t k, kj_lk_t (by rw [← q.2.1]; exact k)]
        · show (if rt n = x then h n + 1 else h n) = (if rt (par n) = x then h (par n) + 1 else h (par n)) + 1
          rw [← q.2.1, q.2.2]
          rcases Nat.decEq (rt n) x with k | k
          · rw [if_neg k, if_neg k]
          · rw [if_pos k, if_pos k]
      · show (if rt n = x then h n + 1 else h n) + _ ≤ N
        have := w.2.2.1
        rcases Nat.decEq (rt n) x with k | k
        · rw [if_neg k]; omega
        · rw [if_pos k]; omega
      · rcases Nat.decEq (rt n) x with k | k
        · rw [kj_lk_f k] at e; exact w.2.2.2 e
        · rw [kj_lk_t k] at e; rw [← e]; exact py
    · subst z
      rw [kj_us]
      refine ⟨fun e => absurd e (fun q => ne q.symm), fun _ => ⟨hy, ?_, ?_⟩, ?_, fun e => ?_⟩
      · rw [kj_lk_t rx, kj_lk_f (by rw [ry]; exact fun q => ne q.symm), ry]
      · show (if rt n = n then h n + 1 else h n) = (if rt y = n then h y + 1 else h y) + 1
        rw [if_pos rx, ry, if_neg (fun q => ne q.symm), (w.1 px).2, ((F y hy).1 py).2]
      · show (if rt n = n then h n + 1 else h n) + _ ≤ N
        have := w.2.2.1
        rw [if_pos rx]; omega
      · rw [kj_lk_t rx] at e; exact e
  · rcases Nat.decEq n x with z | z
    · rw [pk_un z, kj_un z]; exact el n hn
    · subst z
      rw [pk_us, kj_us, if_neg (fun q => ne q.symm)]
theorem kj_LK_nw {l : Nat → Int32} {N R : Nat} {rt : Nat → Nat} (H : kj_LK l N rt R) (hr : ∀ n, n < N → rt n < N) : kj_LK (upd l N (-1)) (N + 1) (kj_up rt N N) (R + 1) := by
  obtain ⟨par, h, F, eR, el⟩ := H
  have e0 : kj_nr (kj_up par N N) (N + 1) = kj_nr par N + 1 := by
    show kj_nr (kj_up par N N) N + _ = _
    rw [kj_nr_hi (Nat.le_refl _), kj_us, if_pos rfl]
  refine ⟨kj_up par N N, kj_up h N 0, fun n hn => ?_, by rw [e0, eR], fun n hn => ?_⟩
  · rcases Nat.lt_or_ge n N with z | z
    · have w := F n z
      have hne : n ≠ N := by omega
      rw [kj_un hne, kj_un hne, kj_un hne, e0]
      refine ⟨w.1, fun e => ?_, by omega, w.2.2.2⟩
      have q := w.2.1 e
      have hp : par n ≠ N := by omega
      rw [kj_un hp, kj_un hp]
      exact ⟨by omega, q.2⟩
    · have e : n = N := by omega
      subst e
      rw [kj_us, kj_us, kj_us, e0]
      have := kj_nr_le par n
      exact ⟨fun _ => ⟨rfl, rfl⟩, fun q => absurd rfl q, by omega, fun _ => rfl⟩
  · rcases Nat.lt_or_ge n N with z | z
    · have hne : n ≠ N := by omega
      rw [pk_un hne, kj_un hne]; exact el n z
    · have e : n = N := by omega
      subst e
      rw [pk_us, kj_us, if_pos rfl]
theorem kj_LK_R {l : Nat → Int32} {N R : Nat} {rt : Nat → Nat} (H : kj_LK l N rt R) : R ≤ N := by
  obtain ⟨par, h, F, eR, el⟩ := H
  rw [eR]; exact kj_nr_le par N
end
section
/-! ===== X: declared, measure, fields, occurring, close, groupOf, nextGroup, soundNeeds ===== -/
def kj_X (d : kj_D) (c : Int32) (a s t : Nat → Int32) : Prop := kj_ok d ∧ c = nI (kj_c d) ∧ (∀ i, a i = nI (kj_ar d i)) ∧ (∀ i, s i = nI (kj_sz d i)) ∧ (∀ j, t j = nI (kj_tk d j))
theorem kj_c4 {d : kj_D} {c : Int32} {a s t : Nat → Int32} (h : kj_X d c a s t) : kj_c d ≤ 4 := h.1.1
theorem kj_xdecl {post : Int32 → Prop} {u : SX} {d : kj_D} (h : kj_X d (kx_count u) (kx_arity u) (kx_sizes u) (kx_tokens u)) (p : Int32) (K1 : ∀ i, i < kj_c d → p = nI i → post 1) (K0 : (∀ i, i < kj_c d → p ≠ nI i) → post 0) : wpX_declared post u p := by
  have hc := kj_c4 h
  refine br_c (fun hn => K0 (fun i hi e => ?_)) (fun hn => ?_)
  · rw [e] at hn; exact nI_pos (by omega) hn
  · obtain ⟨j, hj, rfl⟩ := nI_of hn
    refine pk_le (kj_c d) j (fun z => K0 (fun i hi e => ?_)) (fun z => K1 j z rfl) h.2.1 rfl (by omega) hj
    rw [nI_eq hj (by omega)] at e
    omega
theorem kj_xmeas18 {post : SX → Prop} {u : SX} {d : kj_D} {i : Nat} (h : kj_X d (kx_count u) (kx_arity u) (kx_sizes u) (kx_tokens u)) (hi : i < 4)
    (K : ∀ fc fi : Nat → Int32, fc i = nI (kj_f d i) → (∀ j, j ≠ i → fc j = kx_fieldCount u j) → fi i = nI (kj_e d i) → (∀ j, j ≠ i → fi j = kx_finished u j) → post ((kx_count u), (kx_all u), (kx_judged u), (kx_settledSet u), (kx_wellSet u), (kx_nodes u), (kx_arity u), (kx_sizes u), (kx_tokens u), (fi), (fc), (kx_need u), (kx_settled u), (kx_trial u), (kx_sort u), (kx_left u), (kx_right u), (kx_link u), (kx_typeNode u), (kx_parameterNode u), (kx_values u), (kx_todoA u), (kx_todoB u))) :
    ∀ (m k o : Nat) (fc fi : Nat → Int32), k + m = kj_sz d i → ((o = 0 ∧ kj_op (kj_t d i) k = 1) ∨ o = kj_op (kj_t d i) k) →
      fc i = nI (kj_fd (kj_t d i) k) → (∀ j, j ≠ i → fc j = kx_fieldCount u j) → fi i = nI (kj_en (kj_t d i) k) → (∀ j, j ≠ i → fi j = kx_finished u j) →
      wX_measure_18 post (nI i) (kx_count u) (kx_all u) (kx_judged u) (kx_settledSet u) (kx_wellSet u) (kx_nodes u) (m + 1) (nI o) (nI k) (kx_arity u) (kx_sizes u) (kx_tokens u) (fi) (fc) (kx_need u) (kx_settled u) (kx_trial u) (kx_sort u) (kx_left u) (kx_right u) (kx_link u) (kx_typeNode u) (kx_parameterNode u) (kx_values u) (kx_todoA u) (kx_todoB u) := by
  have hin : vp_in (nI i) 4 := vp_in_nI hi (by decide)
  have ci : (nI i).toNatClampNeg = i := kj_cl (by omega)
  have hsz := h.1.2.2.1 i
  have hs : kx_sizes u (nI i).toNatClampNeg = nI (kj_sz d i) := by rw [ci]; exact h.2.2.2.1 i
  intro m
  induction m with
  | zero =>
    intro k o fc fi hk ho h1 h2 h3 h4
    have ek : k = kj_sz d i := by omega
    refine And.intro hin (pk_le (kj_sz d i) k (fun _ => ?_) (fun z => by omega) hs rfl (by omega) (by omega))
    subst ek
    exact K fc fi h1 h2 h3 h4
  | succ m ih =>
    intro k o fc fi hk ho h1 h2 h3 h4
    have hop := kj_op_pos (kj_t d i) k
    have hol := kj_op_le (kj_t d i) k
    have hfl := kj_fd_le (kj_t d i) k
    have tk : kx_tokens u (nI i * 20 + nI k).toNatClampNeg = nI (kj_t d i k) := by rw [kj_20, kj_cl (by omega)]; exact h.2.2.2.2 _
    have t10 := kj_t10 h.1 i k
    have key : ∀ X : Int32, X = nI (kj_op (kj_t d i) k) → wX_measure_34 post (wX_measure_18 post (nI i) (kx_count u) (kx_all u) (kx_judged u) (kx_settledSet u) (kx_wellSet u) (kx_nodes u) (m + 1)) (nI i) X (nI k) (kx_count u) (kx_all u) (kx_judged u) (kx_settledSet u) (kx_wellSet u) (kx_nodes u) (kx_arity u) (kx_sizes u) (kx_tokens u) (fi) (fc) (kx_need u) (kx_settled u) (kx_trial u) (kx_sort u) (kx_left u) (kx_right u) (kx_link u) (kx_typeNode u) (kx_parameterNode u) (kx_values u) (kx_todoA u) (kx_todoB u) := by
      intro X hX
      subst hX
      refine And.intro (kj_in (kj_20 k) (by omega) (by decide)) (pk_eq (kj_t d i k) 0 (fun z => ?_) (fun z => ?_) tk rfl (by omega) (by decide))
      · refine nm_r (e' := nI (kj_op (kj_t d i) k + 1)) (nI_1 _) (br_f (nI_ne0 (by omega) (by omega)) (nm_r (e' := nI (k + 1)) (nI_1 _) ?_))
        exact ih (k + 1) _ fc fi (by omega) (Or.inr (kj_op0 z).symm) (by rw [kj_fdF (fun y => y.1 z)]; exact h1) h2 (by rw [kj_enF (fun y => y.1 z)]; exact h3) h4
      · refine nm_r (e' := nI (kj_op (kj_t d i) k - 1)) (sb_m1 (by omega)) (pk_eq (kj_op (kj_t d i) k - 1) 0 (fun y => ?_) (fun y => ?_) rfl rfl (by omega) (by decide))
        · have y1 : kj_op (kj_t d i) k = 1 := by omega
          refine ⟨hin, hin, nm_r (e' := upd fc i (nI (kj_fd (kj_t d i) k + 1))) (by rw [ci, h1, nI_1, kj_nb (by omega)]) ⟨hin, nm_r (e' := upd fi i (nI (k + 1))) (by rw [ci, nI_1, kj_nb (by omega)]) (nm_r (e' := nI (k + 1)) (nI_1 _) ?_)⟩⟩
          refine ih (k + 1) _ _ _ (by omega) (Or.inl ⟨y, kj_op1 z y1⟩) ?_ ?_ ?_ ?_
          · rw [pk_us, kj_fdT z y1]
          · intro j hj; rw [pk_un hj]; exact h2 j hj
          · rw [pk_us, kj_enT z y1]
          · intro j hj; rw [pk_un hj]; exact h4 j hj
        · refine nm_r (e' := nI (k + 1)) (nI_1 _) ?_
          have y1 : kj_op (kj_t d i) k ≠ 1 := by omega
          exact ih (k + 1) _ fc fi (by omega) (Or.inr (kj_op2 z y1).symm) (by rw [kj_fdF (fun q => y1 q.2)]; exact h1) h2 (by rw [kj_enF (fun q => y1 q.2)]; exact h3) h4
    refine And.intro hin (pk_le (kj_sz d i) k (fun z => by omega) (fun _ => ?_) hs rfl (by omega) (by omega))
    refine pk_eq o 0 (fun z => key 1 ?_) (fun z => key (nI o) ?_) rfl rfl (by omega) (by decide)
    · rcases ho with q | q
      · rw [q.2]; rfl
      · omega
    · rcases ho with q | q
      · omega
      · rw [q]
theorem kj_xmeas {post : SX → Prop} {u : SX} {d : kj_D} {i : Nat} (h : kj_X d (kx_count u) (kx_arity u) (kx_sizes u) (kx_tokens u)) (hi : i < 4)
    (K : ∀ fc fi : Nat → Int32, fc i = nI (kj_f d i) → (∀ j, j ≠ i → fc j = kx_fieldCount u j) → fi i = nI (kj_e d i) → (∀ j, j ≠ i → fi j = kx_finished u j) → post ((kx_count u), (kx_all u), (kx_judged u), (kx_settledSet u), (kx_wellSet u), (kx_nodes u), (kx_arity u), (kx_sizes u), (kx_tokens u), (fi), (fc), (kx_need u), (kx_settled u), (kx_trial u), (kx_sort u), (kx_left u), (kx_right u), (kx_link u), (kx_typeNode u), (kx_parameterNode u), (kx_values u), (kx_todoA u), (kx_todoB u))) :
    wpX_measure post u (nI i) := by
  have hin : vp_in (nI i) 4 := vp_in_nI hi (by decide)
  have ci : (nI i).toNatClampNeg = i := kj_cl (by omega)
  refine And.intro hin (nm_r (e' := upd (kx_fieldCount u) i (nI 0)) (by rw [ci]; exact congrArg _ (kj_nb' (v := 0) (by decide))) ⟨hin, nm_r (e' := upd (kx_finished u) i (nI 0)) (by rw [ci]; exact congrArg _ (kj_nb' (v := 0) (by decide))) ⟨kj_sz d i + 1, ?_⟩⟩)
  exact kj_xmeas18 h hi K (kj_sz d i) 0 0 _ _ (by omega) (Or.inl ⟨rfl, rfl⟩) pk_us (fun j hj => pk_un hj) pk_us (fun j hj => pk_un hj)
theorem kj_xfields {post : Int32 → SX → Prop} {u : SX} {d : kj_D} (h : kj_X d (kx_count u) (kx_arity u) (kx_sizes u) (kx_tokens u)) (p : Int32) (K0 : (∀ i, i < kj_c d → p ≠ nI i) → post (-1) u)
    (K1 : ∀ i, i < kj_c d → p = nI i → ∀ fc fi : Nat → Int32, fc i = nI (kj_f d i) → (∀ j, j ≠ i → fc j = kx_fieldCount u j) → fi i = nI (kj_e d i) → (∀ j, j ≠ i → fi j = kx_finished u j) → post (nI (kj_f d i)) ((kx_count u), (kx_all u), (kx_judged u), (kx_settledSet u), (kx_wellSet u), (kx_nodes u), (kx_arity u), (kx_sizes u), (kx_tokens u), (fi), (fc), (kx_need u), (kx_settled u), (kx_trial u), (kx_sort u), (kx_left u), (kx_right u), (kx_link u), (kx_typeNode u), (kx_parameterNode u), (kx_values u), (kx_todoA u), (kx_todoB u))) :
    wpX_fields post u p := by
  have hc := kj_c4 h
  unfold wpX_fields
  refine kj_xdecl h p (fun i hi e => br_f (by decide) ?_) (fun hn => br_t rfl (K0 hn))
  subst e
  refine kj_xmeas h (by omega) (fun fc fi a b c e => ⟨vp_in_nI (by omega) (by decide), ?_⟩)
  have q : fc (nI i).toNatClampNeg = nI (kj_f d i) := by rw [kj_cl (by omega)]; exact a
  show post (fc (nI i).toNatClampNeg) _
  rw [q]
  exact K1 i hi rfl fc fi a b c e
theorem kj_xocc {post : Int32 → Prop} {u : SX} {d : kj_D} {i : Nat} (h : kj_X d (kx_count u) (kx_arity u) (kx_sizes u) (kx_tokens u)) (hi : i < 4) (hf : kx_finished u i = nI (kj_e d i)) (K : post (nI (kj_oc (kj_t d i) (kj_e d i)))) : wpX_occurring post u (nI i) := by
  have hin : vp_in (nI i) 4 := vp_in_nI hi (by decide)
  have ci : (nI i).toNatClampNeg = i := kj_cl (by omega)
  have he := kj_e_20 h.1 i
  have hf' : kx_finished u (nI i).toNatClampNeg = nI (kj_e d i) := by rw [ci]; exact hf
  have key : ∀ m k, k + m = kj_e d i → wX_occurring_4 post (nI i) (kx_count u) (kx_all u) (kx_judged u) (kx_settledSet u) (kx_wellSet u) (kx_nodes u) (kx_arity u) (kx_sizes u) (kx_tokens u) (kx_finished u) (kx_fieldCount u) (kx_need u) (kx_settled u) (kx_trial u) (kx_sort u) (kx_left u) (kx_right u) (kx_link u) (kx_typeNode u) (kx_parameterNode u) (kx_values u) (kx_todoA u) (kx_todoB u) (m + 1) (nI (kj_oc (kj_t d i) k)) (nI k) := by
    intro m
    induction m with
    | zero =>
      intro k hk
      have ek : k = kj_e d i := by omega
      refine And.intro hin (pk_le (kj_e d i) k (fun _ => ?_) (fun z => by omega) hf' rfl (by omega) (by omega))
      rw [ek]; exact K
    | succ m ih =>
      intro k hk
      have tk : kx_tokens u (nI i * 20 + nI k).toNatClampNeg = nI (kj_t d i k) := by rw [kj_20, kj_cl (by omega)]; exact h.2.2.2.2 _
      have t10 := kj_t10 h.1 i k
      refine And.intro hin (pk_le (kj_e d i) k (fun z => by omega) (fun _ => ?_) hf' rfl (by omega) (by omega))
      refine ⟨kj_in (kj_20 k) (by omega) (by decide), nm_r tk (pk_lt (kj_t d i k) 7 (fun z => ?_) (fun z => ?_) rfl rfl (by omega) (by decide))⟩
      · refine nm_r (e' := nI (k + 1)) (nI_1 _) ?_
        have e : kj_oc (kj_t d i) k = kj_oc (kj_t d i) (k + 1) := (if_pos z).symm
        rw [e]
        exact ih (k + 1) (by omega)
      · refine nm_r (e' := nI (kj_oc (kj_t d i) (k + 1))) ?_ (nm_r (e' := nI (k + 1)) (nI_1 _) (ih (k + 1) (by omega)))
        have e : kj_oc (kj_t d i) (k + 1) = kj_oc (kj_t d i) k ||| 2 ^ (kj_t d i k - 7) := if_neg (by omega)
        have e7 : nI (kj_t d i k) - 7 = nI (kj_t d i k - 7) := pk_sub z
        rw [e, e7, kj_sh1 _ (by omega), kj_or]
  exact Exists.intro (kj_e d i + 1) (key (kj_e d i) 0 (by omega))
theorem kj_wa_kk (m : Nat → Nat) (k : Nat) : kj_wa m (k + 1) k = kj_wa m k k := by
  show (if _ then kj_wa m k k ||| kj_wa m k k else kj_wa m k k) = _
  rw [Nat.or_self, ite_self]
theorem kj_xclose {post : SX → Prop} {u : SX} {d : kj_D} (h : kj_X d (kx_count u) (kx_arity u) (kx_sizes u) (kx_tokens u)) (hn : ∀ i, i < kj_c d → kx_need u i = nI (kj_r0 d i)) (K : ∀ na : Nat → Int32, (∀ i, i < kj_c d → na i = nI (kj_nd d i)) → post ((kx_count u), (kx_all u), (kx_judged u), (kx_settledSet u), (kx_wellSet u), (kx_nodes u), (kx_arity u), (kx_sizes u), (kx_tokens u), (kx_finished u), (kx_fieldCount u), (na), (kx_settled u), (kx_trial u), (kx_sort u), (kx_left u), (kx_right u), (kx_link u), (kx_typeNode u), (kx_parameterNode u), (kx_values u), (kx_todoA u), (kx_todoB u))) : wpX_close post u := by
  have hc := kj_c4 h
  have W := fun k i => kj_wa_lt (kj_r0_lt h.1) k i
  have cc := h.2.1
  have inner : ∀ (J : Int32 → (Nat → Int32) → (Nat → Int32) → (Nat → Int32) → (Nat → Int32) → (Nat → Int32) → (Nat → Int32) → (Nat → Int32) → (Nat → Int32) → (Nat → Int32) → (Nat → Int32) → (Nat → Int32) → (Nat → Int32) → (Nat → Int32) → (Nat → Int32) → (Nat → Int32) → (Nat → Int32) → (Nat → Int32) → Prop) (k : Nat), k < kj_c d →
      (∀ na : Nat → Int32, (∀ i, i < kj_c d → na i = nI (kj_wa (kj_r0 d) (k + 1) i)) → J (nI (k + 1)) (kx_arity u) (kx_sizes u) (kx_tokens u) (kx_finished u) (kx_fieldCount u) (na) (kx_settled u) (kx_trial u) (kx_sort u) (kx_left u) (kx_right u) (kx_link u) (kx_typeNode u) (kx_parameterNode u) (kx_values u) (kx_todoA u) (kx_todoB u)) →
      ∀ (m i : Nat) (na : Nat → Int32), i + m = kj_c d → (∀ j, j < kj_c d → na j = nI (if j < i then kj_wa (kj_r0 d) (k + 1) j else kj_wa (kj_r0 d) k j)) →
      wX_close_12 post J (nI k) (kx_count u) (kx_all u) (kx_judged u) (kx_settledSet u) (kx_wellSet u) (kx_nodes u) (m + 1) (nI i) (kx_arity u) (kx_sizes u) (kx_tokens u) (kx_finished u) (kx_fieldCount u) (na) (kx_settled u) (kx_trial u) (kx_sort u) (kx_left u) (kx_right u) (kx_link u) (kx_typeNode u) (kx_parameterNode u) (kx_values u) (kx_todoA u) (kx_todoB u) := by
    intro J k hk HJ m
    induction m with
    | zero =>
      intro i na hi H
      refine pk_le (kj_c d) i (fun _ => nm_r (e' := nI (k + 1)) (nI_1 _) (HJ na (fun j hj => ?_))) (fun z => by omega) cc rfl (by omega) (by omega)
      rw [H j hj, if_pos (by omega)]
    | succ m ih =>
      intro i na hi H
      have hin : vp_in (nI i) 4 := vp_in_nI (by omega) (by decide)
      have ci : (nI i).toNatClampNeg = i := kj_cl (by omega)
      have ck : (nI k).toNatClampNeg = k := kj_cl (by omega)
      have ni : na (nI i).toNatClampNeg = nI (kj_wa (kj_r0 d) k i) := by rw [ci, H i (by omega), if_neg (by omega)]
      have nk : na (nI k).toNatClampNeg = nI (kj_wa (kj_r0 d) k k) := by
        rw [ck, H k hk, kj_wa_kk, ite_self]
      refine pk_le (kj_c d) i (fun z => by omega) (fun _ => ⟨hin, ?_⟩) cc rfl (by omega) (by omega)
      refine kj_b0 (kj_wa (kj_r0 d) k i) k ni rfl (W k i) (by omega) (fun z => ?_) (fun z => ?_)
      · refine nm_r (e' := nI (i + 1)) (nI_1 _) (ih (i + 1) na (by omega) (fun j hj => ?_))
        rw [H j hj]
        rcases Nat.lt_or_ge j i with y | y
        · rw [if_pos y, if_pos (by omega)]
        · rcases Nat.lt_or_ge j (i + 1) with x | x
          · have ej : j = i := by omega
            subst ej
            rw [if_neg (by omega), if_pos x]
            exact congrArg nI (show _ = (if _ then _ else _) by rw [if_neg (by rw [z]; decide)])
          · rw [if_neg (by omega), if_neg (by omega)]
      · have ew : kj_wa (kj_r0 d) (k + 1) i = kj_wa (kj_r0 d) k i ||| kj_wa (kj_r0 d) k k := if_pos z
        refine ⟨hin, vp_in_nI (by omega) (by decide), hin, nm_r (e' := upd na i (nI (kj_wa (kj_r0 d) (k + 1) i))) ?_ (nm_r (e' := nI (i + 1)) (nI_1 _) (ih (i + 1) _ (by omega) (fun j hj => ?_)))⟩
        · rw [ni, nk, kj_or, ← ew, kj_nb (Nat.lt_trans (W (k + 1) i) (by decide)), ci]
        · rcases Nat.decEq j i with y | y
          · rw [pk_un y, H j hj]
            rcases Nat.lt_or_ge j i with x | x
            · rw [if_pos x, if_pos (by omega)]
            · rw [if_neg (by omega), if_neg (by omega)]
          · subst y
            rw [pk_us, if_pos (by omega)]
  have outer : ∀ (m k : Nat) (na : Nat → Int32), k + m = kj_c d → (∀ j, j < kj_c d → na j = nI (kj_wa (kj_r0 d) k j)) → wX_close_2 post (kx_count u) (kx_all u) (kx_judged u) (kx_settledSet u) (kx_wellSet u) (kx_nodes u) (m + 1) (nI k) (kx_arity u) (kx_sizes u) (kx_tokens u) (kx_finished u) (kx_fieldCount u) (na) (kx_settled u) (kx_trial u) (kx_sort u) (kx_left u) (kx_right u) (kx_link u) (kx_typeNode u) (kx_parameterNode u) (kx_values u) (kx_todoA u) (kx_todoB u) := by
    intro m
    induction m with
    | zero =>
      intro k na hk H
      refine pk_le (kj_c d) k (fun _ => K na (fun i hi => ?_)) (fun z => by omega) cc rfl (by omega) (by omega)
      rw [H i hi]
      have e : kj_nd d i = kj_wa (kj_r0 d) (kj_c d) i := by
        have := kj_wa_stop (kj_r0_c h.1) (4 - kj_c d) i
        rw [show kj_c d + (4 - kj_c d) = 4 by omega] at this
        exact this
      rw [e, show k = kj_c d by omega]
    | succ m ih =>
      intro k na hk H
      refine pk_le (kj_c d) k (fun z => by omega) (fun _ => ⟨kj_c d + 1, ?_⟩) cc rfl (by omega) (by omega)
      refine inner _ k (by omega) (fun na' H' => ih (k + 1) na' (by omega) H') (kj_c d) 0 na (by omega) (fun j hj => ?_)
      rw [H j hj, if_neg (by omega)]
  exact Exists.intro (kj_c d + 1) (outer (kj_c d) 0 (kx_need u) (by omega) hn)
/-- the needs as they are held once they are closed -/
def kj_XN (d : kj_D) (n : Nat → Int32) : Prop := ∀ i, i < kj_c d → n i = nI (kj_nd d i)
theorem kj_xgrp {post : Int32 → Prop} {u : SX} {d : kj_D} (h : kj_X d (kx_count u) (kx_arity u) (kx_sizes u) (kx_tokens u)) (hn : kj_XN d (kx_need u)) {i : Nat} (hi : i < kj_c d) (K : post (nI (kj_g d i))) : wpX_groupOf post u (nI i) := by
  have hc := kj_c4 h
  have cc := h.2.1
  have L := kj_nd_lt h.1
  have hin : vp_in (nI i) 4 := vp_in_nI (by omega) (by decide)
  have ni : kx_need u (nI i).toNatClampNeg = nI (kj_nd d i) := by rw [kj_cl (by omega)]; exact hn i hi
  have key : ∀ m j, j + m = kj_c d → wX_groupOf_6 post (nI i) (kx_count u) (kx_all u) (kx_judged u) (kx_settledSet u) (kx_wellSet u) (kx_nodes u) (kx_arity u) (kx_sizes u) (kx_tokens u) (kx_finished u) (kx_fieldCount u) (kx_need u) (kx_settled u) (kx_trial u) (kx_sort u) (kx_left u) (kx_right u) (kx_link u) (kx_typeNode u) (kx_parameterNode u) (kx_values u) (kx_todoA u) (kx_todoB u) (m + 1) (nI (kj_gm (kj_nd d) i j)) (nI j) := by
    intro m
    induction m with
    | zero =>
      intro j hj
      refine pk_le (kj_c d) j (fun _ => ?_) (fun z => by omega) cc rfl (by omega) (by omega)
      have e : kj_g d i = kj_gm (kj_nd d) i (kj_c d) := by
        have := kj_gm_stop (m := kj_nd d) (i := i) (kj_nd_c h.1 i) (4 - kj_c d)
        rw [show kj_c d + (4 - kj_c d) = 4 by omega] at this
        exact this
      rw [show j = kj_c d by omega, ← e]
      exact K
    | succ m ih =>
      intro j hj
      have nj : kx_need u (nI j).toNatClampNeg = nI (kj_nd d j) := by rw [kj_cl (by omega)]; exact hn j (by omega)
      refine pk_le (kj_c d) j (fun z => by omega) (fun _ => ⟨hin, ?_⟩) cc rfl (by omega) (by omega)
      refine kj_b0 (kj_nd d i) j ni rfl (L i) (by omega) (fun z => ?_) (fun z => ⟨vp_in_nI (by omega) (by decide), ?_⟩)
      · refine nm_r (e' := nI (j + 1)) (nI_1 _) ?_
        have e : kj_gm (kj_nd d) i (j + 1) = kj_gm (kj_nd d) i j := if_neg (fun q => by rw [q.1] at z; exact absurd z (by decide))
        rw [← e]; exact ih (j + 1) (by omega)
      · refine kj_b0 (kj_nd d j) i nj rfl (L j) (by omega) (fun y => ?_) (fun y => ?_)
        · refine nm_r (e' := nI (j + 1)) (nI_1 _) ?_
          have e : kj_gm (kj_nd d) i (j + 1) = kj_gm (kj_nd d) i j := if_neg (fun q => by rw [q.2] at y; exact absurd y (by decide))
          rw [← e]; exact ih (j + 1) (by omega)
        · have e : kj_gm (kj_nd d) i (j + 1) = kj_gm (kj_nd d) i j ||| 2 ^ j := if_pos ⟨z, y⟩
          refine nm_r (e' := nI (kj_gm (kj_nd d) i (j + 1))) ?_ (nm_r (e' := nI (j + 1)) (nI_1 _) (ih (j + 1) (by omega)))
          rw [kj_sh1 j (by omega), kj_or, e]
  refine nm_r (e' := nI (kj_gm (kj_nd d) i 0)) (kj_sh1 i (by omega)) ⟨kj_c d + 1, key (kj_c d) 0 (by omega)⟩
/-- group i may be settled when s is -/
def kj_rdy (d : kj_D) (s i : Nat) : Prop := ∀ j, j < 4 → (kj_nd d i).testBit j = true → (kj_g d i).testBit j = true ∨ s.testBit j = true
theorem kj_xnext {post : Int32 → Prop} {u : SX} {d : kj_D} (h : kj_X d (kx_count u) (kx_arity u) (kx_sizes u) (kx_tokens u)) (hn : kj_XN d (kx_need u)) {s : Nat} (hs : s < 16) (es : kx_settledSet u = nI s)
    (K1 : ∀ i, i < kj_c d → s.testBit i = false → kj_rdy d s i → post (nI (kj_g d i))) (K0 : (∀ i, i < kj_c d → s.testBit i = false → ¬ kj_rdy d s i) → post 0) : wpX_nextGroup post u := by
  have hc := kj_c4 h
  have cc := h.2.1
  have L := kj_nd_lt h.1
  have key : ∀ m i, i + m = kj_c d → (∀ a, a < i → s.testBit a = false → ¬ kj_rdy d s a) → wX_nextGroup_2 post (kx_count u) (kx_all u) (kx_judged u) (kx_settledSet u) (kx_wellSet u) (kx_nodes u) (kx_arity u) (kx_sizes u) (kx_tokens u) (kx_finished u) (kx_fieldCount u) (kx_need u) (kx_settled u) (kx_trial u) (kx_sort u) (kx_left u) (kx_right u) (kx_link u) (kx_typeNode u) (kx_parameterNode u) (kx_values u) (kx_todoA u) (kx_todoB u) (m + 1) (nI i) := by
    intro m
    induction m with
    | zero =>
      intro i hi H
      refine pk_le (kj_c d) i (fun _ => K0 (fun a ha => H a (by omega))) (fun z => by omega) cc rfl (by omega) (by omega)
    | succ m ih =>
      intro i hi H
      refine pk_le (kj_c d) i (fun z => by omega) (fun _ => ?_) cc rfl (by omega) (by omega)
      refine kj_b0 s i es rfl hs (by omega) (fun z => ?_) (fun z => ?_)
      · refine kj_xgrp (u := u) h hn (by omega) ⟨vp_in_nI (by omega) (by decide), ?_⟩
        have ni : kx_need u (nI i).toNatClampNeg = nI (kj_nd d i) := by rw [kj_cl (by omega)]; exact hn i (by omega)
        have E : ((kx_need u (nI i).toNatClampNeg &&& (nI (kj_g d i) ^^^ (-1))) &&& (kx_settledSet u ^^^ (-1))) = 0 ↔ kj_rdy d s i := by
          rw [ni, es]; exact kj_sub0 (L i) (kj_g_lt d (by omega)) hs
        refine ek_if E (fun y => K1 i (by omega) z y) (fun y => nm_r (e' := nI (i + 1)) (nI_1 _) (ih (i + 1) (by omega) (fun a ha q => ?_)))
        rcases Nat.lt_or_ge a i with x | x
        · exact H a x q
        · have : a = i := by omega
          subst this
          exact y
      · refine nm_r (e' := nI (i + 1)) (nI_1 _) (ih (i + 1) (by omega) (fun a ha q => ?_))
        rcases Nat.lt_or_ge a i with x | x
        · exact H a x q
        · have : a = i := by omega
          subst this
          rw [q] at z; exact absurd z (by decide)
  exact Exists.intro (kj_c d + 1) (key (kj_c d) 0 (by omega) (fun a ha => absurd ha (Nat.not_lt_zero a)))
theorem kj_xsound {post : Int32 → Prop} {u : SX} {d : kj_D} (h : kj_X d (kx_count u) (kx_arity u) (kx_sizes u) (kx_tokens u)) (hn : kj_XN d (kx_need u)) {S w : Nat} (hS : S < 16) (hw : w < 16) (ew : kx_wellSet u = nI w)
    (K1 : (∀ i, i < kj_c d → S.testBit i = true → ∀ j, j < 4 → (kj_nd d i).testBit j = true → S.testBit j = true ∨ w.testBit j = true) → post 1)
    (K0 : ∀ i, i < kj_c d → S.testBit i = true → ¬ (∀ j, j < 4 → (kj_nd d i).testBit j = true → S.testBit j = true ∨ w.testBit j = true) → post 0) : wpX_soundNeeds post u (nI S) := by
  have hc := kj_c4 h
  have cc := h.2.1
  have L := kj_nd_lt h.1
  have key : ∀ m i, i + m = kj_c d → (∀ a, a < i → S.testBit a = true → ∀ j, j < 4 → (kj_nd d a).testBit j = true → S.testBit j = true ∨ w.testBit j = true) → wX_soundNeeds_2 post (nI S) (kx_count u) (kx_all u) (kx_judged u) (kx_settledSet u) (kx_wellSet u) (kx_nodes u) (kx_arity u) (kx_sizes u) (kx_tokens u) (kx_finished u) (kx_fieldCount u) (kx_need u) (kx_settled u) (kx_trial u) (kx_sort u) (kx_left u) (kx_right u) (kx_link u) (kx_typeNode u) (kx_parameterNode u) (kx_values u) (kx_todoA u) (kx_todoB u) (m + 1) (nI i) := by
    intro m
    induction m with
    | zero =>
      intro i hi H
      refine pk_le (kj_c d) i (fun _ => K1 (fun a ha => H a (by omega))) (fun z => by omega) cc rfl (by omega) (by omega)
    | succ m ih =>
      intro i hi H
      refine pk_le (kj_c d) i (fun z => by omega) (fun _ => ?_) cc rfl (by omega) (by omega)
      refine kj_b0 S i rfl rfl hS (by omega) (fun z => ?_) (fun z => ⟨vp_in_nI (by omega) (by decide), ?_⟩)
      · refine nm_r (e' := nI (i + 1)) (nI_1 _) (ih (i + 1) (by omega) (fun a ha q => ?_))
        rcases Nat.lt_or_ge a i with x | x
        · exact H a x q
        · have : a = i := by omega
          subst this
          rw [q] at z; exact absurd z (by decide)
      · have ni : kx_need u (nI i).toNatClampNeg = nI (kj_nd d i) := by rw [kj_cl (by omega)]; exact hn i (by omega)
        have E : ((kx_need u (nI i).toNatClampNeg &&& (nI S ^^^ (-1))) &&& (kx_wellSet u ^^^ (-1))) = 0 ↔ ∀ j, j < 4 → (kj_nd d i).testBit j = true → S.testBit j = true ∨ w.testBit j = true := by
          rw [ni, ew]; exact kj_sub0 (L i) hS hw
        refine ek_if E (fun y => nm_r (e' := nI (i + 1)) (nI_1 _) (ih (i + 1) (by omega) (fun a ha q => ?_))) (fun y => K0 i (by omega) z y)
        rcases Nat.lt_or_ge a i with x | x
        · exact H a x q
        · have : a = i := by omega
          subst this
          exact y
  exact Exists.intro (kj_c d + 1) (key (kj_c d) 0 (by omega) (fun a ha => absurd ha (Nat.not_lt_zero a)))
end
section
/-! ===== X: find, newNode, startNodes, unify, apply, shallow, numberOf ===== -/
theorem kj_xfind {post : Int32 → Prop} {u : SX} {N R : Nat} {rt : Nat → Nat} (H : kj_LK (kx_link u) N rt R) (hN : N ≤ 240) {n : Nat} (hn : n < N) {p : Int32} (hp : p = nI n) (K : post (nI (rt n))) : wpX_find post u p := by
  obtain ⟨par, h, F, eR, el⟩ := H
  subst hp
  have key : ∀ q m j, m < N → h m = q → rt m = rt n → j + q ≤ 240 → wX_find_4 post (kx_count u) (kx_all u) (kx_judged u) (kx_settledSet u) (kx_wellSet u) (kx_nodes u) (kx_arity u) (kx_sizes u) (kx_tokens u) (kx_finished u) (kx_fieldCount u) (kx_need u) (kx_settled u) (kx_trial u) (kx_sort u) (kx_left u) (kx_right u) (kx_link u) (kx_typeNode u) (kx_parameterNode u) (kx_values u) (kx_todoA u) (kx_todoB u) (q + 1) (nI m) (nI j) := by
    intro q
    induction q with
    | zero =>
      intro m j hm hq hr hj
      have w := F m hm
      have pm : par m = m := by
        rcases Nat.decEq (par m) m with z | z
        · have := (w.2.1 z).2.2; omega
        · exact z
      have lm : kx_link u (nI m).toNatClampNeg = -1 := by rw [kj_cl (by omega), el m hm, if_pos pm]
      refine br_f (nI_ge (a := j) (b := 255) (by omega) (by decide)) ⟨vp_in_nI (by omega) (by decide), br_t (by rw [lm]; decide) ?_⟩
      rw [← hr, (w.1 pm).1] at K
      exact K
    | succ q ih =>
      intro m j hm hq hr hj
      have w := F m hm
      have pm : par m ≠ m := fun z => by have := (w.1 z).2; omega
      have w2 := w.2.1 pm
      have lm : kx_link u (nI m).toNatClampNeg = nI (par m) := by rw [kj_cl (by omega), el m hm, if_neg pm]
      refine br_f (nI_ge (a := j) (b := 255) (by omega) (by decide)) ⟨vp_in_nI (by omega) (by decide), br_f (by rw [lm]; exact nI_pos (by omega)) ⟨vp_in_nI (by omega) (by decide), nm_r lm (nm_r (nI_1 j) ?_)⟩⟩
      exact ih (par m) (j + 1) w2.1 (by omega) (by rw [← w2.2.1]; exact hr) (by omega)
  have hb := (F n hn).2.2.1
  exact Exists.intro (h n + 1) (key (h n) n 0 hn rfl rfl (by omega))
theorem kj_xnn {post : Int32 → SX → Prop} {u : SX} {N s l r : Nat} (e : kx_nodes u = nI N) (hN : N < 240) (hs : s < 128) (hl : l < 240) (hr : r < 240) {p0 p1 p2 : Int32} (h0 : p0 = nI s) (h1 : p1 = nI l) (h2 : p2 = nI r)
    (K : post (nI N) ((kx_count u), (kx_all u), (kx_judged u), (kx_settledSet u), (kx_wellSet u), (nI (N + 1)), (kx_arity u), (kx_sizes u), (kx_tokens u), (kx_finished u), (kx_fieldCount u), (kx_need u), (kx_settled u), (kx_trial u), (upd (kx_sort u) N (nI s)), (upd (kx_left u) N (nI l)), (upd (kx_right u) N (nI r)), (upd (kx_link u) N (-1)), (kx_typeNode u), (kx_parameterNode u), (kx_values u), (kx_todoA u), (kx_todoB u))) : wpX_newNode post u p0 p1 p2 := by
  subst h0 h1 h2
  have hin : vp_in (nI N) 255 := vp_in_nI (by omega) (by decide)
  have ci : (nI N).toNatClampNeg = N := kj_cl (by omega)
  have key : wX_newNode_20 post (nI s) (nI l) (nI r) (nI N) (kx_count u) (kx_all u) (kx_judged u) (kx_settledSet u) (kx_wellSet u) (kx_nodes u) (kx_arity u) (kx_sizes u) (kx_tokens u) (kx_finished u) (kx_fieldCount u) (kx_need u) (kx_settled u) (kx_trial u) (kx_sort u) (kx_left u) (kx_right u) (kx_link u) (kx_typeNode u) (kx_parameterNode u) (kx_values u) (kx_todoA u) (kx_todoB u) := by
    refine And.intro hin (nm_r (e' := upd (kx_sort u) N (nI s)) (by rw [ci, kj_nb hs]) ⟨hin, nm_r (e' := upd (kx_left u) N (nI l)) (by rw [ci, kj_ns (by omega)]) ⟨hin, nm_r (e' := upd (kx_right u) N (nI r)) (by rw [ci, kj_ns (by omega)]) ⟨hin, nm_r (e' := upd (kx_link u) N (-1)) (by rw [ci, kj_nsm]) (nm_r (nI_1 N) K)⟩⟩⟩)
  refine pk_le 255 N (fun z => by omega) (fun _ => ?_) rfl e (by decide) (by omega)
  rw [← e] at key
  exact key
def kj_GA (m : Int32) (s f r : Nat → Int32) (g : kj_G) : Prop := m = nI (kj_N g) ∧ kj_N g ≤ 240 ∧ kj_Gv g ∧ ∀ n, n < kj_N g → s n = nI (kj_so g n) ∧ f n = nI (kj_le g n) ∧ r n = nI (kj_ri g n)
def kj_GR (m : Int32) (s f r l : Nat → Int32) (g : kj_G) : Prop := kj_GA m s f r g ∧ kj_Cg g ∧ ∃ R, kj_LK l (kj_N g) (kj_rt g) R
theorem kj_xnew {post : Int32 → SX → Prop} {u : SX} {g : kj_G} (G : kj_GR (kx_nodes u) (kx_sort u) (kx_left u) (kx_right u) (kx_link u) g) (hN : kj_N g < 240) {s l r : Nat} (hs : s = 0 ∨ s = 2) (hl : l < kj_N g) (hr : r < kj_N g) {p0 p1 p2 : Int32} (h0 : p0 = nI s) (h1 : p1 = nI l) (h2 : p2 = nI r)
    (K : ∀ so le ri li : Nat → Int32, kj_GR (nI (kj_N g + 1)) so le ri li (kj_nw g s l r) → post (nI (kj_N g)) ((kx_count u), (kx_all u), (kx_judged u), (kx_settledSet u), (kx_wellSet u), (nI (kj_N g + 1)), (kx_arity u), (kx_sizes u), (kx_tokens u), (kx_finished u), (kx_fieldCount u), (kx_need u), (kx_settled u), (kx_trial u), (so), (le), (ri), (li), (kx_typeNode u), (kx_parameterNode u), (kx_values u), (kx_todoA u), (kx_todoB u))) : wpX_newNode post u p0 p1 p2 := by
  obtain ⟨⟨e, _, v, a⟩, cg, R, lk⟩ := G
  refine kj_xnn e hN (by omega) (by omega) (by omega) h0 h1 h2 (K _ _ _ _ ⟨⟨rfl, hN, kj_nw_Gv v hs hl hr, fun n hn => ?_⟩, kj_nw_Cg v cg, R + 1, kj_LK_nw lk (fun n hn => (v.2 n hn).2.2.2.1)⟩)
  have hn' : n < kj_N g + 1 := hn
  rcases Nat.lt_or_ge n (kj_N g) with z | z
  · have q := kj_nw_lo (g := g) (s := s) (l := l) (r := r) z
    have hne : n ≠ kj_N g := by omega
    have an := a n z
    rw [q.1, q.2.1, q.2.2.1]
    exact ⟨(pk_un hne).trans an.1, (pk_un hne).trans an.2.1, (pk_un hne).trans an.2.2⟩
  · have en : n = kj_N g := by omega
    subst en
    have q := kj_nw_at (g := g) (s := s) (l := l) (r := r)
    rw [q.1, q.2.1, q.2.2.1]
    exact ⟨pk_us, pk_us, pk_us⟩
/-- the graph of the four numbered kinds alone -/
def kj_g0 : kj_G := (4, fun n => if n = 0 then 1 else 2, fun n => if n = 3 then 1 else 0, fun n => if n = 2 then 1 else 0, fun n => n)
theorem kj_g0_Gv : kj_Gv kj_g0 := by
  refine ⟨⟨by decide, rfl, rfl, ⟨rfl, rfl, rfl⟩, ⟨rfl, rfl, rfl⟩, ⟨rfl, rfl, rfl⟩⟩, ?_⟩
  have D : ∀ n, n < 4 → kj_so kj_g0 n ≤ 2 ∧ kj_le kj_g0 n < 4 ∧ kj_ri kj_g0 n < 4 ∧ kj_rt kj_g0 n < 4 ∧ kj_rt kj_g0 (kj_rt kj_g0 n) = kj_rt kj_g0 n ∧ (kj_so kj_g0 n = 2 → kj_so kj_g0 (kj_rt kj_g0 n) = 2) ∧ (kj_so kj_g0 n = 1 → n = 0) := by decide
  exact fun n hn => ⟨(D n hn).1, (D n hn).2.1, (D n hn).2.2.1, (D n hn).2.2.2.1, (D n hn).2.2.2.2.1, (D n hn).2.2.2.2.2⟩
theorem kj_g0_Cg : kj_Cg kj_g0 := by
  intro n m _ _ _ _ e
  have e' : n = m := e
  rw [e']
  exact ⟨rfl, rfl⟩
theorem kj_u4 (a : Nat → Int32) (f : Nat → Nat) (n : Nat) (h : n < 4) : upd (upd (upd (upd a 0 (nI (f 0))) 1 (nI (f 1))) 2 (nI (f 2))) 3 (nI (f 3)) n = nI (f n) :=
  co_4 (P := fun n => upd (upd (upd (upd a 0 (nI (f 0))) 1 (nI (f 1))) 2 (nI (f 2))) 3 (nI (f 3)) n = nI (f n)) rfl rfl rfl rfl h
theorem kj_nr4 : kj_nr (fun n => n) 4 = 4 := by decide
theorem kj_xstart {post : SX → Prop} {u : SX}
    (K : ∀ so le ri li : Nat → Int32, kj_GR (nI 4) so le ri li kj_g0 → post ((kx_count u), (kx_all u), (kx_judged u), (kx_settledSet u), (kx_wellSet u), (nI 4), (kx_arity u), (kx_sizes u), (kx_tokens u), (kx_finished u), (kx_fieldCount u), (kx_need u), (kx_settled u), (kx_trial u), (so), (le), (ri), (li), (kx_typeNode u), (kx_parameterNode u), (kx_values u), (kx_todoA u), (kx_todoB u))) : wpX_startNodes post u := by
  unfold wpX_startNodes
  refine kj_xnn (u := ((kx_count u), (kx_all u), (kx_judged u), (kx_settledSet u), (kx_wellSet u), (0), (kx_arity u), (kx_sizes u), (kx_tokens u), (kx_finished u), (kx_fieldCount u), (kx_need u), (kx_settled u), (kx_trial u), (kx_sort u), (kx_left u), (kx_right u), (kx_link u), (kx_typeNode u), (kx_parameterNode u), (kx_values u), (kx_todoA u), (kx_todoB u))) (N := 0) (s := 1) (l := 0) (r := 0) rfl (by decide) (by decide) (by decide) (by decide) rfl rfl rfl ?_
  refine kj_xnn (N := 1) (s := 2) (l := 0) (r := 0) rfl (by decide) (by decide) (by decide) (by decide) rfl rfl rfl ?_
  refine kj_xnn (N := 2) (s := 2) (l := 0) (r := 1) rfl (by decide) (by decide) (by decide) (by decide) rfl rfl rfl ?_
  refine kj_xnn (N := 3) (s := 2) (l := 1) (r := 0) rfl (by decide) (by decide) (by decide) (by decide) rfl rfl rfl ?_
  refine K _ _ _ _ ⟨⟨rfl, by decide, kj_g0_Gv, fun n hn => ?_⟩, kj_g0_Cg, 4, fun n => n, fun _ => 0, fun n _ => ⟨fun _ => ⟨rfl, rfl⟩, fun z => absurd rfl z, ?_, fun _ => rfl⟩, kj_nr4.symm, fun n hn => ?_⟩
  · have hn' : n < 4 := hn
    exact ⟨kj_u4 (kx_sort u) (kj_so kj_g0) n hn', kj_u4 (kx_left u) (kj_le kj_g0) n hn', kj_u4 (kx_right u) (kj_ri kj_g0) n hn'⟩
  · show 0 + kj_nr (fun n => n) 4 ≤ 4
    rw [kj_nr4]; decide
  · have hn' : n < 4 := hn
    rw [if_pos rfl]
    refine co_4 (P := fun n => _ = (-1 : Int32)) ?_ ?_ ?_ ?_ hn' <;> rfl
/-! the pairs to come, as the two arrays hold them -/
def kj_TD (a b : Nat → Int32) : List (Nat × Nat) → Prop
  | [] => True
  | p :: r => a r.length = nI p.1 ∧ b r.length = nI p.2 ∧ kj_TD a b r
theorem kj_TD_f {a b a' b' : Nat → Int32} : ∀ {r : List (Nat × Nat)}, (∀ j, j < r.length → a' j = a j ∧ b' j = b j) → kj_TD a b r → kj_TD a' b' r
  | [], _, _ => True.intro
  | p :: r, h, t => by
    have q := h r.length (Nat.lt_succ_self _)
    exact ⟨q.1.trans t.1, q.2.trans t.2.1, kj_TD_f (r := r) (fun j hj => h j (Nat.lt_succ_of_lt hj)) t.2.2⟩
theorem kj_xunify21 {post : Int32 → SX → Prop} {u : SX} {g0 : kj_G} {a0 b0 : Nat} (A : kj_GA (kx_nodes u) (kx_sort u) (kx_left u) (kx_right u) g0)
    (K1 : ∀ (l ta tb : Nat → Int32) (g : kj_G), g = kj_wr g0 (kj_rt g) → kj_UI g0 g a0 b0 [] → (∃ R, kj_LK l (kj_N g) (kj_rt g) R) → post 1 (kx_sU u l ta tb))
    (K0 : ∀ l ta tb : Nat → Int32, (∀ V, kj_Md g0 V → V a0 ≠ V b0) → post 0 (kx_sU u l ta tb)) :
    ∀ (n : Nat) (g : kj_G) (td : List (Nat × Nat)) (l ta tb : Nat → Int32) (R w : Nat), kj_UI g0 g a0 b0 td → kj_LK l (kj_N g) (kj_rt g) R → kj_TD ta tb td → td.length + R ≤ kj_N g + 1 → 2 * R + td.length < n → w + 2 * R + td.length ≤ 1000 →
      wX_unify_21 post (kx_count u) (kx_all u) (kx_judged u) (kx_settledSet u) (kx_wellSet u) (kx_nodes u) n (nI td.length) (nI w) (kx_arity u) (kx_sizes u) (kx_tokens u) (kx_finished u) (kx_fieldCount u) (kx_need u) (kx_settled u) (kx_trial u) (kx_sort u) (kx_left u) (kx_right u) (l) (kx_typeNode u) (kx_parameterNode u) (kx_values u) (ta) (tb) := by
  intro n
  induction n with
  | zero => intro g td l ta tb R w _ _ _ _ h; omega
  | succ n ih =>
    intro g td l ta tb R w U lk T hd hm hw
    have ug := U.1
    have uv := U.2.1
    have es : kj_so g = kj_so g0 := by rw [ug]
    have el : kj_le g = kj_le g0 := by rw [ug]
    have er : kj_ri g = kj_ri g0 := by rw [ug]
    have eN : kj_N g = kj_N g0 := by rw [ug]
    have hN := A.2.1
    have a4 := A.2.2.2
    refine br_f (nI_ge (a := w) (b := 2048) (by omega) (by decide)) ?_
    cases td with
    | nil => exact br_t (by decide) (K1 l ta tb g ug U ⟨R, lk⟩)
    | cons p r =>
      obtain ⟨a, b⟩ := p
      have hlen : ((a, b) :: r).length = r.length + 1 := rfl
      rw [hlen] at hd hm hw ⊢
      have hab := U.2.2.1 (a, b) (List.mem_cons_self ..)
      have va := uv.2 a hab.1
      have vb := uv.2 b hab.2
      have cr : (nI r.length).toNatClampNeg = r.length := kj_cl (by omega)
      have inr : vp_in (nI r.length) 255 := vp_in_nI (by omega) (by decide)
      have ta1 : ta (nI r.length).toNatClampNeg = nI a := by rw [cr]; exact T.1
      have tb1 : tb (nI r.length).toNatClampNeg = nI b := by rw [cr]; exact T.2.1
      refine br_f (nI_nle (by omega) (by omega)) (nm_r (pk_m1 r.length) ⟨inr, ?_⟩)
      refine kj_xfind (u := kx_sU u l ta tb) lk (by omega) hab.1 ta1 ⟨inr, ?_⟩
      refine kj_xfind (u := kx_sU u l ta tb) lk (by omega) hab.2 tb1 ?_
      generalize ex : kj_rt g a = x
      generalize ey : kj_rt g b = y
      have hx : x < kj_N g := by rw [← ex]; exact va.2.2.2.1
      have hy : y < kj_N g := by rw [← ey]; exact vb.2.2.2.1
      have rx : kj_rt g x = x := by rw [← ex]; exact va.2.2.2.2.1
      have ry : kj_rt g y = y := by rw [← ey]; exact vb.2.2.2.2.1
      have inx : vp_in (nI x) 255 := vp_in_nI (by omega) (by decide)
      have iny : vp_in (nI y) 255 := vp_in_nI (by omega) (by decide)
      have cx : (nI x).toNatClampNeg = x := kj_cl (by omega)
      have cy : (nI y).toNatClampNeg = y := kj_cl (by omega)
      have ax := a4 x (by omega)
      have ay := a4 y (by omega)
      have sx : kx_sort u (nI x).toNatClampNeg = nI (kj_so g x) := by rw [cx, es]; exact ax.1
      have sy : kx_sort u (nI y).toNatClampNeg = nI (kj_so g y) := by rw [cy, es]; exact ay.1
      have bx := (uv.2 x hx).1
      have by' := (uv.2 y hy).1
      refine pk_eq x y (fun e => ?_) (fun ne => ⟨inx, ?_⟩) rfl rfl (by omega) (by omega)
      · refine nm_r (nI_1 w) ?_
        exact ih g r l ta tb R (w + 1) (kj_UI_eq U (by rw [ex, ey, e])) lk T.2.2 (by omega) (by omega) (by omega)
      · refine pk_eq (kj_so g x) 0 (fun e => ?_) (fun nx => ⟨iny, ?_⟩) sx rfl (by omega) (by decide)
        · obtain ⟨R', hR, lk'⟩ := kj_LK_ln lk hx hy rx ry ne
          refine ⟨inx, nm_r (e' := upd l x (nI y)) (by rw [cx, kj_ns (by omega)]) (nm_r (nI_1 w) ?_)⟩
          exact ih (kj_wr g (kj_lk (kj_rt g) x y)) r _ ta tb R' (w + 1) (kj_UI_ln U (Or.inl ⟨ex.symm, ey.symm⟩) ne e) lk' T.2.2 (by show r.length + R' ≤ kj_N g + 1; omega) (by omega) (by omega)
        · refine pk_eq (kj_so g y) 0 (fun e => ?_) (fun ny => ⟨inx, iny, ?_⟩) sy rfl (by omega) (by decide)
          · obtain ⟨R', hR, lk'⟩ := kj_LK_ln lk hy hx ry rx (fun z => ne z.symm)
            refine ⟨iny, nm_r (e' := upd l y (nI x)) (by rw [cy, kj_ns (by omega)]) (nm_r (nI_1 w) ?_)⟩
            exact ih (kj_wr g (kj_lk (kj_rt g) y x)) r _ ta tb R' (w + 1) (kj_UI_ln U (Or.inr ⟨ey.symm, ex.symm⟩) (fun z => ne z.symm) e) lk' T.2.2 (by show r.length + R' ≤ kj_N g + 1; omega) (by omega) (by omega)
          · refine pk_eq (kj_so g x) (kj_so g y) (fun e => ⟨inx, ?_⟩) (fun e => K0 l ta tb (kj_UI_no U ex.symm ey.symm ne nx ny (Or.inl e))) sx sy (by omega) (by omega)
            refine pk_eq (kj_so g x) 1 (fun e1 => K0 l ta tb (kj_UI_no U ex.symm ey.symm ne nx ny (Or.inr e1))) (fun n1 => ⟨inx, ?_⟩) sx rfl (by omega) (by decide)
            obtain ⟨R', hR, lk'⟩ := kj_LK_ln lk hx hy rx ry ne
            have s2 : kj_so g x = 2 := by omega
            have wx := uv.2 x hx
            have wy := uv.2 y hy
            have lx : kx_left u (nI x).toNatClampNeg = nI (kj_le g x) := by rw [cx, el]; exact ax.2.1
            have ly : kx_left u (nI y).toNatClampNeg = nI (kj_le g y) := by rw [cy, el]; exact ay.2.1
            have rx' : kx_right u (nI x).toNatClampNeg = nI (kj_ri g x) := by rw [cx, er]; exact ax.2.2
            have ry' : kx_right u (nI y).toNatClampNeg = nI (kj_ri g y) := by rw [cy, er]; exact ay.2.2
            have inr1 : vp_in (nI r.length + 1) 255 := kj_in (nI_1 _) (by omega) (by decide)
            have cr1 : (nI r.length + 1).toNatClampNeg = r.length + 1 := by rw [nI_1]; exact kj_cl (by omega)
            refine nm_r (e' := upd l x (nI y)) (by rw [cx, kj_ns (by omega)]) ⟨inx, inr, nm_r (e' := upd ta r.length (nI (kj_ri g x))) (by rw [cr, rx', kj_ns' (by omega)]) ⟨iny, inr, nm_r (e' := upd tb r.length (nI (kj_ri g y))) (by rw [cr, ry', kj_ns' (by omega)]) ⟨inx, inr1, nm_r (e' := upd (upd ta r.length (nI (kj_ri g x))) (r.length + 1) (nI (kj_le g x))) (by rw [cr1, lx, kj_ns' (by omega)]) ⟨iny, inr1, nm_r (e' := upd (upd tb r.length (nI (kj_ri g y))) (r.length + 1) (nI (kj_le g y))) (by rw [cr1, ly, kj_ns' (by omega)]) (nm_r (e' := nI (r.length + 2)) (nI_add _ 2) (nm_r (nI_1 w) ?_))⟩⟩⟩⟩
            refine ih (kj_wr g (kj_lk (kj_rt g) x y)) ((kj_le g x, kj_le g y) :: (kj_ri g x, kj_ri g y) :: r) _ _ _ R' (w + 1) (kj_UI_ar U ex.symm ey.symm ne s2 (by omega)) lk' ⟨?_, ?_, ?_, ?_, ?_⟩ ?_ ?_ ?_
            · exact pk_us
            · exact pk_us
            · exact (pk_un (by show r.length ≠ r.length + 1; omega)).trans pk_us
            · exact (pk_un (by show r.length ≠ r.length + 1; omega)).trans pk_us
            · refine kj_TD_f (fun j hj => ⟨?_, ?_⟩) T.2.2
              · rw [pk_un (by omega), pk_un (by omega)]
              · rw [pk_un (by omega), pk_un (by omega)]
            · show r.length + 1 + 1 + R' ≤ kj_N g + 1; omega
            · show 2 * R' + (r.length + 1 + 1) < n; omega
            · show w + 1 + 2 * R' + (r.length + 1 + 1) ≤ 1000; omega
/-- what a joining that succeeds gives -/
def kj_J (g0 g : kj_G) (a b : Nat) : Prop := kj_Ex g0 g ∧ kj_N g = kj_N g0 ∧ kj_rt g a = kj_rt g b ∧ ∀ V, kj_Md g0 V → V a = V b → kj_Md g V
theorem kj_xunify {post : Int32 → SX → Prop} {u : SX} {g : kj_G} (G : kj_GR (kx_nodes u) (kx_sort u) (kx_left u) (kx_right u) (kx_link u) g) {a b : Nat} (ha : a < kj_N g) (hb : b < kj_N g) {p q : Int32} (hp : p = nI a) (hq : q = nI b)
    (K1 : ∀ (l ta tb : Nat → Int32) (g' : kj_G), kj_GR (kx_nodes u) (kx_sort u) (kx_left u) (kx_right u) l g' → kj_J g g' a b → post 1 (kx_sU u l ta tb))
    (K0 : ∀ l ta tb : Nat → Int32, (∀ V, kj_Md g V → V a ≠ V b) → post 0 (kx_sU u l ta tb)) : wpX_unify post u p q := by
  subst hp hq
  obtain ⟨A, cg, R, lk⟩ := G
  have hN := A.2.1
  have hR := kj_LK_R lk
  refine nm_r (e' := upd (kx_todoA u) 0 (nI a)) (by rw [kj_ns (by omega)]) (nm_r (e' := upd (kx_todoB u) 0 (nI b)) (by rw [kj_ns (by omega)]) ⟨2 * R + 2, ?_⟩)
  refine kj_xunify21 A (fun l ta tb g' eg U lk' => ?_) K0 (2 * R + 2) g [(a, b)] (kx_link u) _ _ R 0 (kj_UI_0 A.2.2.1 cg ha hb) lk ⟨pk_us, pk_us, True.intro⟩ (by show 1 + R ≤ _; omega) (by show 2 * R + 1 < _; omega) (by show 0 + 2 * R + 1 ≤ _; omega)
  have E := kj_UI_end A.2.2.1 U
  have eN : kj_N g' = kj_N g := by rw [eg]
  refine K1 l ta tb g' ⟨⟨by rw [eN]; exact A.1, by omega, E.1, fun n hn => ?_⟩, E.2.1, lk'⟩ ⟨E.2.2.1, eN, E.2.2.2.1, E.2.2.2.2⟩
  have q := E.2.2.1.2.1 n (by omega)
  rw [q.1, q.2.1, q.2.2]
  exact A.2.2.2 n (by omega)
end
section
/-! ===== X: apply, shallow, numberOf ===== -/
/-- what an application that succeeds gives: node N is the result, node N + 1 the arrow from a to it, joined to f -/
def kj_AP (g0 g : kj_G) (f a : Nat) : Prop := kj_Ex g0 g ∧ kj_N g = kj_N g0 + 2 ∧ (kj_so g (kj_N g0 + 1) = 2 ∧ kj_le g (kj_N g0 + 1) = a ∧ kj_ri g (kj_N g0 + 1) = kj_N g0) ∧ kj_rt g f = kj_rt g (kj_N g0 + 1) ∧
  ∀ V, kj_Md g0 V → V f ≠ 0 → V a = kj_L (V f) → ∃ V', kj_Md g V' ∧ (∀ n, n < kj_N g0 → V' n = V n) ∧ V' (kj_N g0) = kj_R (V f)
theorem kj_ap_V {g : kj_G} (v : kj_Gv g) {V : Nat → Nat} (M : kj_Md g V) {f a : Nat} (hf : f < kj_N g) (ha : a < kj_N g) (h0 : V f ≠ 0) (h1 : V a = kj_L (V f)) :
    ∃ V', kj_Md (kj_nw (kj_nw g 0 0 0) 2 a (kj_N g)) V' ∧ (∀ n, n < kj_N g → V' n = V n) ∧ V' (kj_N g) = kj_R (V f) ∧ V' f = V' (kj_N g + 1) := by
  have b4 := v.1.1
  have v20 := (M f hf).1
  have M1 := kj_nw_Md v M (s := 0) (l := 0) (r := 0) (c := kj_R (V f)) (kj_R_le _ (by omega)) (by omega) (by omega) (by decide) (fun z => absurd z (by decide))
  have w1 : kj_Gv (kj_nw g 0 0 0) := kj_nw_Gv v (Or.inl rfl) (by omega) (by omega)
  have u1 : ∀ n, n < kj_N g → kj_up V (kj_N g) (kj_R (V f)) n = V n := fun n hn => kj_un (by omega)
  have M2 := kj_nw_Md w1 M1 (s := 2) (l := a) (r := kj_N g) (c := V f) v20 (by show a < kj_N g + 1; omega) (by show kj_N g < kj_N g + 1; omega) (by decide) (fun _ => ⟨h0, by rw [u1 a ha, h1], by rw [kj_us]⟩)
  refine ⟨_, M2, fun n hn => ?_, ?_, ?_⟩
  · rw [kj_un (by show n ≠ kj_N g + 1; omega)]; exact u1 n hn
  · rw [kj_un (by show kj_N g ≠ kj_N g + 1; omega)]; exact kj_us
  · rw [kj_un (by show f ≠ kj_N g + 1; omega), u1 f hf]
    exact (kj_us (f := kj_up V (kj_N g) (kj_R (V f))) (k := kj_N g + 1) (x := V f)).symm
theorem kj_xapply {post : Int32 → SX → Prop} {u : SX} {g : kj_G} (G : kj_GR (kx_nodes u) (kx_sort u) (kx_left u) (kx_right u) (kx_link u) g) (hN : kj_N g + 2 ≤ 240) {f a : Nat} (hf : f < kj_N g) (ha : a < kj_N g) {p q : Int32} (hp : p = nI f) (hq : q = nI a)
    (K1 : ∀ (n : Int32) (s x r l ta tb : Nat → Int32) (g' : kj_G), kj_GR n s x r l g' → kj_AP g g' f a → post (nI (kj_N g)) (kx_sG u n s x r l ta tb))
    (K0 : ∀ (n : Int32) (s x r l ta tb : Nat → Int32), (∀ V, kj_Md g V → V f ≠ 0 → V a ≠ kj_L (V f)) → post (-1) (kx_sG u n s x r l ta tb)) : wpX_apply post u p q := by
  have v := G.1.2.2.1
  have b4 := v.1.1
  unfold wpX_apply
  refine kj_xnew (u := u) G (by omega) (s := 0) (l := 0) (r := 0) (Or.inl rfl) (by omega) (by omega) rfl rfl rfl (fun s1 x1 r1 l1 G1 => ?_)
  refine kj_xnew (u := ((kx_count u), (kx_all u), (kx_judged u), (kx_settledSet u), (kx_wellSet u), (nI (kj_N g + 1)), (kx_arity u), (kx_sizes u), (kx_tokens u), (kx_finished u), (kx_fieldCount u), (kx_need u), (kx_settled u), (kx_trial u), (s1), (x1), (r1), (l1), (kx_typeNode u), (kx_parameterNode u), (kx_values u), (kx_todoA u), (kx_todoB u))) G1 (by show kj_N g + 1 < 240; omega) (s := 2) (l := a) (r := kj_N g) (Or.inr rfl) (by show a < kj_N g + 1; omega) (by show kj_N g < kj_N g + 1; omega) rfl hq rfl (fun s2 x2 r2 l2 G2 => ?_)
  have L2 := fun n (hn : n < kj_N g) => kj_nw_lo (g := kj_nw g 0 0 0) (s := 2) (l := a) (r := kj_N g) (n := n) (Nat.lt_succ_of_lt hn)
  have at2 := kj_nw_at (g := kj_nw g 0 0 0) (s := 2) (l := a) (r := kj_N g)
  have E2 : kj_Ex g (kj_nw (kj_nw g 0 0 0) 2 a (kj_N g)) := kj_Ex_tr (kj_nw_Ex g 0 0 0) (kj_nw_Ex _ 2 a (kj_N g))
  refine kj_xunify (u := ((kx_count u), (kx_all u), (kx_judged u), (kx_settledSet u), (kx_wellSet u), (nI (kj_N g + 1 + 1)), (kx_arity u), (kx_sizes u), (kx_tokens u), (kx_finished u), (kx_fieldCount u), (kx_need u), (kx_settled u), (kx_trial u), (s2), (x2), (r2), (l2), (kx_typeNode u), (kx_parameterNode u), (kx_values u), (kx_todoA u), (kx_todoB u))) G2 (a := f) (b := kj_N g + 1) (by show f < kj_N g + 1 + 1; omega) (by show kj_N g + 1 < kj_N g + 1 + 1; omega) hp rfl (fun l ta tb g' G' J => ?_) (fun l ta tb H => ?_)
  · refine br_f (by decide) ?_
    refine K1 _ _ _ _ _ _ _ g' G' ⟨kj_Ex_tr E2 J.1, J.2.1, ?_, J.2.2.1, fun V M h0 h1 => ?_⟩
    · have q := J.1.2.1 (kj_N g + 1) (by show kj_N g + 1 < kj_N g + 1 + 1; omega)
      exact ⟨q.1.trans at2.1, q.2.1.trans at2.2.1, q.2.2.trans at2.2.2.1⟩
    · obtain ⟨V', M', e1, e2, e3⟩ := kj_ap_V v M hf ha h0 h1
      exact ⟨V', J.2.2.2 V' M' e3, e1, e2⟩
  · refine br_t rfl (K0 _ _ _ _ _ _ _ (fun V M h0 h1 => ?_))
    obtain ⟨V', M', e1, e2, e3⟩ := kj_ap_V v M hf ha h0 h1
    exact H V' M' e3
theorem kj_De_mr {g : kj_G} {c n : Nat} (s : kj_so g (kj_rt g n) = 2) (h0 : c ≠ 0) (h20 : c ≤ 20) (l : kj_De g (kj_L c) (kj_le g (kj_rt g n))) (r : kj_De g (kj_R c) (kj_ri g (kj_rt g n))) : kj_De g c n := by
  obtain ⟨f, l⟩ := l
  obtain ⟨f', r⟩ := r
  refine ⟨f + f' + 1, Or.inr ⟨h0, h20, s, kj_Dn_up l f', ?_⟩⟩
  have := kj_Dn_up r f
  rw [Nat.add_comm] at this
  exact this
theorem kj_xsh {post : Int32 → Prop} {u : SX} {g : kj_G} (G : kj_GR (kx_nodes u) (kx_sort u) (kx_left u) (kx_right u) (kx_link u) g) {n : Nat} (hn : n < kj_N g) {p : Int32} (hp : p = nI n) (K0 : kj_De g 0 n → post 0) (K1 : kj_De g 1 n → post 1) (Km : (∀ V, kj_Md g V → V n ≠ 0 ∧ V n ≠ 1) → post (-1)) : wpX_shallow post u p := by
  obtain ⟨⟨e, hN, v, a⟩, cg, R, lk⟩ := G
  unfold wpX_shallow
  refine kj_xfind (u := u) lk hN hn hp ?_
  have w := v.2 n hn
  generalize er : kj_rt g n = r
  have hr : r < kj_N g := by rw [← er]; exact w.2.2.2.1
  have wr := v.2 r hr
  have cr : (nI r).toNatClampNeg = r := kj_cl (by omega)
  have inr : vp_in (nI r) 255 := vp_in_nI (by omega) (by decide)
  have sr : kx_sort u (nI r).toNatClampNeg = nI (kj_so g r) := by rw [cr]; exact (a r hr).1
  have lr : kx_left u (nI r).toNatClampNeg = nI (kj_le g r) := by rw [cr]; exact (a r hr).2.1
  have rr : kx_right u (nI r).toNatClampNeg = nI (kj_ri g r) := by rw [cr]; exact (a r hr).2.2
  refine ⟨inr, pk_eq (kj_so g r) 2 (fun z => ⟨inr, ?_⟩) (fun z => K0 (kj_De_0 (by rw [er]; exact z))) sr rfl (by omega) (by decide)⟩
  refine kj_xfind (u := u) lk hN wr.2.1 lr ⟨inr, ?_⟩
  refine kj_xfind (u := u) lk hN wr.2.2.1 rr ?_
  have w1 := v.2 _ wr.2.1
  have w2 := v.2 _ wr.2.2.1
  have c1 : (nI (kj_rt g (kj_le g r))).toNatClampNeg = kj_rt g (kj_le g r) := kj_cl (by omega)
  have c2 : (nI (kj_rt g (kj_ri g r))).toNatClampNeg = kj_rt g (kj_ri g r) := kj_cl (by omega)
  have s1 : kx_sort u (nI (kj_rt g (kj_le g r))).toNatClampNeg = nI (kj_so g (kj_rt g (kj_le g r))) := by rw [c1]; exact (a _ w1.2.2.2.1).1
  have s2 : kx_sort u (nI (kj_rt g (kj_ri g r))).toNatClampNeg = nI (kj_so g (kj_rt g (kj_ri g r))) := by rw [c2]; exact (a _ w2.2.2.2.1).1
  have b1 := (v.2 _ w1.2.2.2.1).1
  have b2 := (v.2 _ w2.2.2.2.1).1
  refine ⟨vp_in_nI (by omega) (by decide), pk_eq (kj_so g (kj_rt g (kj_le g r))) 2 (fun y => Km (fun V M => ?_)) (fun y => ⟨vp_in_nI (by omega) (by decide), ?_⟩) s1 rfl (by omega) (by decide)⟩
  · have q := kj_Md_0 v M hn (by rw [er]; exact z)
    rw [er] at q
    refine ⟨q.1, fun h1 => ?_⟩
    have q1 := kj_Md_0 v M wr.2.1 y
    rw [h1] at q
    exact q1.1 q.2.1.symm
  · refine pk_eq (kj_so g (kj_rt g (kj_ri g r))) 2 (fun x => Km (fun V M => ?_)) (fun x => K1 ?_) s2 rfl (by omega) (by decide)
    · have q := kj_Md_0 v M hn (by rw [er]; exact z)
      rw [er] at q
      refine ⟨q.1, fun h1 => ?_⟩
      have q1 := kj_Md_0 v M wr.2.2.1 x
      rw [h1] at q
      exact q1.1 q.2.2.symm
    · exact kj_De_mr (by rw [er]; exact z) (by decide) (by decide) (by rw [er]; exact kj_De_0 y) (by rw [er]; exact kj_De_0 x)
theorem kj_xnum {post : Int32 → Prop} {u : SX} {g : kj_G} (G : kj_GR (kx_nodes u) (kx_sort u) (kx_left u) (kx_right u) (kx_link u) g) {n : Nat} (hn : n < kj_N g) {p : Int32} (hp : p = nI n) (K : ∀ k, k < 4 → kj_De g (kj_co k) n → post (nI k)) (Km : (∀ V, kj_Md g V → ∀ k, k < 4 → V n ≠ kj_co k) → post (-1)) : wpX_numberOf post u p := by
  have G' := G
  obtain ⟨⟨e, hN, v, a⟩, cg, R, lk⟩ := G
  unfold wpX_numberOf
  refine kj_xfind (u := u) lk hN hn hp ?_
  have w := v.2 n hn
  generalize er : kj_rt g n = r
  have hr : r < kj_N g := by rw [← er]; exact w.2.2.2.1
  have wr := v.2 r hr
  have cr : (nI r).toNatClampNeg = r := kj_cl (by omega)
  have inr : vp_in (nI r) 255 := vp_in_nI (by omega) (by decide)
  have sr : kx_sort u (nI r).toNatClampNeg = nI (kj_so g r) := by rw [cr]; exact (a r hr).1
  have lr : kx_left u (nI r).toNatClampNeg = nI (kj_le g r) := by rw [cr]; exact (a r hr).2.1
  have rr : kx_right u (nI r).toNatClampNeg = nI (kj_ri g r) := by rw [cr]; exact (a r hr).2.2
  refine ⟨inr, pk_eq (kj_so g r) 2 (fun z => ⟨inr, ?_⟩) (fun z => K 0 (by decide) (kj_De_0 (by rw [er]; exact z))) sr rfl (by omega) (by decide)⟩
  have MV : ∀ V, kj_Md g V → V n ≠ 0 ∧ kj_L (V n) = V (kj_le g r) ∧ kj_R (V n) = V (kj_ri g r) := fun V M => by
    have q := kj_Md_0 v M hn (by rw [er]; exact z)
    rw [er] at q
    exact q
  have badL : (∀ V, kj_Md g V → V (kj_le g r) ≠ 0 ∧ V (kj_le g r) ≠ 1) → ∀ V, kj_Md g V → ∀ k, k < 4 → V n ≠ kj_co k := fun H V M k hk ek => by
    have q := MV V M
    rw [ek] at q
    rcases (kj_colr k hk).2.2.1 q.1 with y | y
    · exact (H V M).1 (q.2.1.symm.trans y)
    · exact (H V M).2 (q.2.1.symm.trans y.1)
  have badR : (∀ V, kj_Md g V → V (kj_ri g r) ≠ 0 ∧ V (kj_ri g r) ≠ 1) → ∀ V, kj_Md g V → ∀ k, k < 4 → V n ≠ kj_co k := fun H V M k hk ek => by
    have q := MV V M
    rw [ek] at q
    rcases (kj_colr k hk).2.2.2 q.1 with y | y
    · exact (H V M).1 (q.2.2.symm.trans y)
    · exact (H V M).2 (q.2.2.symm.trans y)
  have mk : ∀ c, c ≠ 0 → c ≤ 20 → kj_De g (kj_L c) (kj_le g r) → kj_De g (kj_R c) (kj_ri g r) → kj_De g c n := fun c h0 h20 l q => kj_De_mr (by rw [er]; exact z) h0 h20 (by rw [er]; exact l) (by rw [er]; exact q)
  refine kj_xsh (u := u) G' wr.2.1 lr (fun dl => ⟨inr, ?_⟩) (fun dl => ⟨inr, ?_⟩) (fun bl => ⟨inr, ?_⟩)
  · refine kj_xsh (u := u) G' wr.2.2.1 rr (fun dr => ?_) (fun dr => ?_) (fun br => ?_)
    · exact br_f (by decide) (br_f (by decide) (br_t (by decide) (br_f (by decide) (K 1 (by decide) (mk 1 (by decide) (by decide) dl dr)))))
    · exact br_f (by decide) (br_f (by decide) (br_t (by decide) (br_f (by decide) (K 2 (by decide) (mk 5 (by decide) (by decide) dl dr)))))
    · exact br_f (by decide) (br_t (by decide) (Km (badR br)))
  · refine kj_xsh (u := u) G' wr.2.2.1 rr (fun dr => ?_) (fun dr => ?_) (fun br => ?_)
    · exact br_f (by decide) (br_f (by decide) (br_t (by decide) (br_t (by decide) (K 3 (by decide) (mk 2 (by decide) (by decide) dl dr)))))
    · refine br_f (by decide) (br_f (by decide) (br_f (by decide) (Km (fun V M k hk ek => ?_))))
      have q := MV V M
      rw [ek] at q
      have l1 := (kj_Md_De v M wr.2.1 dl (by decide)).1
      have r1 := (kj_Md_De v M wr.2.2.1 dr (by decide)).1
      rcases (kj_colr k hk).2.2.1 q.1 with y | y
      · exact l1 (q.2.1.symm.trans y)
      · exact r1 (q.2.2.symm.trans y.2)
    · exact br_f (by decide) (br_t (by decide) (Km (badR br)))
  · refine kj_xsh (u := u) G' wr.2.2.1 rr (fun dr => ?_) (fun dr => ?_) (fun br => ?_)
    · exact br_t (by decide) (Km (badL bl))
    · exact br_t (by decide) (Km (badL bl))
    · exact br_t (by decide) (Km (badL bl))
end
section
/-! ===== X: buildType, unknownType, settledType ===== -/
/-- node t is the kind of type j, whose parameters' kinds are the nodes pn -/
def kj_TN (d : kj_D) (g : kj_G) (pn : Nat → Nat) (j t : Nat) : Prop := t < kj_N g ∧ (∀ p, p < kj_ar d j → pn (2 * j + p) < kj_N g) ∧ (kj_ar d j = 0 → t = 0) ∧ (kj_ar d j = 1 → kj_so g t = 2 ∧ kj_le g t = pn (2 * j) ∧ kj_ri g t = 0) ∧
  (kj_ar d j = 2 → kj_so g t = 2 ∧ kj_le g t = pn (2 * j) ∧ ∃ m, m < kj_N g ∧ kj_ri g t = m ∧ kj_so g m = 2 ∧ kj_le g m = pn (2 * j + 1) ∧ kj_ri g m = 0)
theorem kj_TN_x {d : kj_D} {g g' : kj_G} {pn : Nat → Nat} {j t : Nat} (E : kj_Ex g g') (T : kj_TN d g pn j t) : kj_TN d g' pn j t := by
  obtain ⟨t1, t2, t3, t4, t5⟩ := T
  have q := E.2.1 t t1
  refine ⟨Nat.lt_of_lt_of_le t1 E.1, fun p hp => Nat.lt_of_lt_of_le (t2 p hp) E.1, t3, fun h => ?_, fun h => ?_⟩
  · rw [q.1, q.2.1, q.2.2]; exact t4 h
  · obtain ⟨a, b, m, hm, c, e, f, k⟩ := t5 h
    have q' := E.2.1 m hm
    rw [q.1, q.2.1, q.2.2]
    exact ⟨a, b, m, Nat.lt_of_lt_of_le hm E.1, c, q'.1.trans e, q'.2.1.trans f, q'.2.2.trans k⟩
theorem kj_Md_b {g : kj_G} (v : kj_Gv g) {V : Nat → Nat} (M : kj_Md g V) : ∀ k, k < 4 → V k = kj_co k := by
  have b := v.1
  have lt : ∀ k, k < 4 → k < kj_N g := fun k hk => Nat.lt_of_lt_of_le hk b.1
  have v0 : V 0 = 0 := (M 0 (lt 0 (by decide))).2.1 b.2.1
  have m1 := (M 1 (lt 1 (by decide))).2.2.1 b.2.2.2.1.1
  have m2 := (M 2 (lt 2 (by decide))).2.2.1 b.2.2.2.2.1.1
  have m3 := (M 3 (lt 3 (by decide))).2.2.1 b.2.2.2.2.2.1
  have h1 := (M 1 (lt 1 (by decide))).1
  have h2 := (M 2 (lt 2 (by decide))).1
  have h3 := (M 3 (lt 3 (by decide))).1
  rw [b.2.2.2.1.2.1, b.2.2.2.1.2.2, v0] at m1
  have v1 : V 1 = 1 := kj_inj (V 1) (by omega) 1 (by decide) m1.1 (by decide) m1.2.1 m1.2.2
  rw [b.2.2.2.2.1.2.1, b.2.2.2.2.1.2.2, v0, v1] at m2
  rw [b.2.2.2.2.2.2.1, b.2.2.2.2.2.2.2, v0, v1] at m3
  have v2 : V 2 = 5 := kj_inj (V 2) (by omega) 5 (by decide) m2.1 (by decide) m2.2.1 m2.2.2
  have v3 : V 3 = 2 := kj_inj (V 3) (by omega) 2 (by decide) m3.1 (by decide) m3.2.1 m3.2.2
  intro k hk
  exact co_4 (P := fun k => V k = kj_co k) v0 v1 v2 v3 hk
theorem kj_ty0 {ar num : Nat → Nat} {j : Nat} (h : ar j = 0) : kj_ty ar num j = 0 := if_pos h
theorem kj_ty1 {ar num : Nat → Nat} {j : Nat} (h : ar j = 1) : kj_ty ar num j = 1 + num (2 * j) := by
  show (if ar j = 0 then _ else _) = _
  rw [if_neg (by omega), if_pos h]
theorem kj_ty2 {ar num : Nat → Nat} {j : Nat} (h : ar j = 2) : kj_ty ar num j = 5 + 4 * num (2 * j) + num (2 * j + 1) := by
  show (if ar j = 0 then _ else _) = _
  rw [if_neg (by omega), if_neg (by omega)]
/-- a type's node denotes its kind, where its parameters' nodes do -/
theorem kj_TN_De {d : kj_D} {g : kj_G} (ok : kj_ok d) (v : kj_Gv g) (cg : kj_Cg g) {pn num : Nat → Nat} {j t : Nat} (T : kj_TN d g pn j t) (P : ∀ p, p < kj_ar d j → num (2 * j + p) < 4 ∧ kj_De g (kj_co (num (2 * j + p))) (pn (2 * j + p))) : kj_De g (kj_ty (kj_ar d) num j) t := by
  obtain ⟨t1, t2, t3, t4, t5⟩ := T
  have h2 := ok.2.1 j
  have d0 : kj_De g 0 0 := kj_De_b v cg 0 (by decide)
  rcases Nat.lt_or_ge (kj_ar d j) 1 with z | z
  · have e : kj_ar d j = 0 := by omega
    rw [kj_ty0 e, t3 e]; exact d0
  · have p0 : num (2 * j) < 4 ∧ kj_De g (kj_co (num (2 * j))) (pn (2 * j)) := P 0 (by omega)
    rcases Nat.lt_or_ge (kj_ar d j) 2 with y | y
    · have e : kj_ar d j = 1 := by omega
      have q := t4 e
      have l := kj_L1 (num (2 * j)) p0.1
      rw [kj_ty1 e]
      refine kj_De_mk v cg t1 q.1 (by omega) (by omega) ?_ ?_
      · rw [l.1, q.2.1]; exact p0.2
      · rw [l.2, q.2.2]; exact d0
    · have e : kj_ar d j = 2 := by omega
      have p1 : num (2 * j + 1) < 4 ∧ kj_De g (kj_co (num (2 * j + 1))) (pn (2 * j + 1)) := P 1 (by omega)
      obtain ⟨a, b, m, hm, c, e1, f, k⟩ := t5 e
      have l := kj_L5 (num (2 * j)) p0.1 (num (2 * j + 1)) p1.1
      have l1 := kj_L1 (num (2 * j + 1)) p1.1
      rw [kj_ty2 e]
      refine kj_De_mk v cg t1 a (by omega) (by omega) ?_ ?_
      · rw [l.1, b]; exact p0.2
      · rw [l.2, c]
        refine kj_De_mk v cg hm e1 (by omega) (by omega) ?_ ?_
        · rw [l1.1, f]; exact p1.2
        · rw [l1.2, k]; exact d0
theorem kj_TN_V {d : kj_D} {g : kj_G} (ok : kj_ok d) (v : kj_Gv g) {V : Nat → Nat} (M : kj_Md g V) {pn num : Nat → Nat} {j t : Nat} (T : kj_TN d g pn j t) (P : ∀ p, p < kj_ar d j → num (2 * j + p) < 4 ∧ V (pn (2 * j + p)) = kj_co (num (2 * j + p))) : V t = kj_ty (kj_ar d) num j := by
  obtain ⟨t1, t2, t3, t4, t5⟩ := T
  have h2 := ok.2.1 j
  have v0 : V 0 = 0 := kj_Md_b v M 0 (by decide)
  have m := M t t1
  rcases Nat.lt_or_ge (kj_ar d j) 1 with z | z
  · have e : kj_ar d j = 0 := by omega
    rw [kj_ty0 e, t3 e]; exact v0
  · have p0 : num (2 * j) < 4 ∧ V (pn (2 * j)) = kj_co (num (2 * j)) := P 0 (by omega)
    rcases Nat.lt_or_ge (kj_ar d j) 2 with y | y
    · have e : kj_ar d j = 1 := by omega
      have q := t4 e
      have l := kj_L1 (num (2 * j)) p0.1
      rw [kj_ty1 e]
      have w := m.2.2.1 q.1
      rw [q.2.1, q.2.2, v0, p0.2] at w
      exact kj_inj _ (by omega) _ (by omega) w.1 (by omega) (w.2.1.trans l.1.symm) (w.2.2.trans l.2.symm)
    · have e : kj_ar d j = 2 := by omega
      have p1 : num (2 * j + 1) < 4 ∧ V (pn (2 * j + 1)) = kj_co (num (2 * j + 1)) := P 1 (by omega)
      obtain ⟨a, b, m', hm, c, e1, f, k⟩ := t5 e
      have l := kj_L5 (num (2 * j)) p0.1 (num (2 * j + 1)) p1.1
      have l1 := kj_L1 (num (2 * j + 1)) p1.1
      rw [kj_ty2 e]
      have mm := M m' hm
      have w1 := mm.2.2.1 e1
      rw [f, k, v0, p1.2] at w1
      have vm : V m' = 1 + num (2 * j + 1) := kj_inj _ (by omega) _ (by omega) w1.1 (by omega) (w1.2.1.trans l1.1.symm) (w1.2.2.trans l1.2.symm)
      have w := m.2.2.1 a
      rw [b, c, vm, p0.2] at w
      exact kj_inj _ (by omega) _ (by omega) w.1 (by omega) (w.2.1.trans l.1.symm) (w.2.2.trans l.2.symm)
/-- what building a type gives -/
def kj_BD (d : kj_D) (g0 g : kj_G) (pn : Nat → Nat) (j t : Nat) : Prop := kj_Ex g0 g ∧ kj_N g ≤ kj_N g0 + 2 ∧ kj_TN d g pn j t ∧
  ∀ V num : Nat → Nat, kj_Md g0 V → (∀ p, p < kj_ar d j → num (2 * j + p) < 4 ∧ V (pn (2 * j + p)) = kj_co (num (2 * j + p))) → ∃ V', kj_Md g V' ∧ ∀ n, n < kj_N g0 → V' n = V n
theorem kj_xb0 {post : SX → Prop} {u : SX} {j t : Nat} (hj : j < 4) (ht : t < 500) (n : Nat) (K : post ((kx_count u), (kx_all u), (kx_judged u), (kx_settledSet u), (kx_wellSet u), (kx_nodes u), (kx_arity u), (kx_sizes u), (kx_tokens u), (kx_finished u), (kx_fieldCount u), (kx_need u), (kx_settled u), (kx_trial u), (kx_sort u), (kx_left u), (kx_right u), (kx_link u), (upd (kx_typeNode u) j (nI t)), (kx_parameterNode u), (kx_values u), (kx_todoA u), (kx_todoB u))) : wX_buildType_11 post (nI j) (n + 1) (nI t) (-1) (kx_count u) (kx_all u) (kx_judged u) (kx_settledSet u) (kx_wellSet u) (kx_nodes u) (kx_arity u) (kx_sizes u) (kx_tokens u) (kx_finished u) (kx_fieldCount u) (kx_need u) (kx_settled u) (kx_trial u) (kx_sort u) (kx_left u) (kx_right u) (kx_link u) (kx_typeNode u) (kx_parameterNode u) (kx_values u) (kx_todoA u) (kx_todoB u) :=
  br_t (by decide) ⟨vp_in_nI hj (by decide), nm_r (e' := upd (kx_typeNode u) j (nI t)) (by rw [kj_cl (by omega), kj_ns (by omega)]) K⟩
theorem kj_xb1 {post : SX → Prop} {u : SX} {g : kj_G} (G : kj_GR (kx_nodes u) (kx_sort u) (kx_left u) (kx_right u) (kx_link u) g) (hN : kj_N g < 240) {j p q t : Nat} (hj : j < 4) (hp : p < 2) (eq : kx_parameterNode u (2 * j + p) = nI q) (hq : q < kj_N g) (ht : t < kj_N g) (n : Nat)
    (K : ∀ so le ri li : Nat → Int32, kj_GR (nI (kj_N g + 1)) so le ri li (kj_nw g 2 q t) → wX_buildType_11 post (nI j) n (nI (kj_N g)) (nI p + (-1)) (kx_count (kx_sP u (nI (kj_N g + 1)) so le ri li (kx_typeNode u) (kx_parameterNode u))) (kx_all (kx_sP u (nI (kj_N g + 1)) so le ri li (kx_typeNode u) (kx_parameterNode u))) (kx_judged (kx_sP u (nI (kj_N g + 1)) so le ri li (kx_typeNode u) (kx_parameterNode u))) (kx_settledSet (kx_sP u (nI (kj_N g + 1)) so le ri li (kx_typeNode u) (kx_parameterNode u))) (kx_wellSet (kx_sP u (nI (kj_N g + 1)) so le ri li (kx_typeNode u) (kx_parameterNode u))) (kx_nodes (kx_sP u (nI (kj_N g + 1)) so le ri li (kx_typeNode u) (kx_parameterNode u))) (kx_arity (kx_sP u (nI (kj_N g + 1)) so le ri li (kx_typeNode u) (kx_parameterNode u))) (kx_sizes (kx_sP u (nI (kj_N g + 1)) so le ri li (kx_typeNode u) (kx_parameterNode u))) (kx_tokens (kx_sP u (nI (kj_N g + 1)) so le ri li (kx_typeNode u) (kx_parameterNode u))) (kx_finished (kx_sP u (nI (kj_N g + 1)) so le ri li (kx_typeNode u) (kx_parameterNode u))) (kx_fieldCount (kx_sP u (nI (kj_N g + 1)) so le ri li (kx_typeNode u) (kx_parameterNode u))) (kx_need (kx_sP u (nI (kj_N g + 1)) so le ri li (kx_typeNode u) (kx_parameterNode u))) (kx_settled (kx_sP u (nI (kj_N g + 1)) so le ri li (kx_typeNode u) (kx_parameterNode u))) (kx_trial (kx_sP u (nI (kj_N g + 1)) so le ri li (kx_typeNode u) (kx_parameterNode u))) (kx_sort (kx_sP u (nI (kj_N g + 1)) so le ri li (kx_typeNode u) (kx_parameterNode u))) (kx_left (kx_sP u (nI (kj_N g + 1)) so le ri li (kx_typeNode u) (kx_parameterNode u))) (kx_right (kx_sP u (nI (kj_N g + 1)) so le ri li (kx_typeNode u) (kx_parameterNode u))) (kx_link (kx_sP u (nI (kj_N g + 1)) so le ri li (kx_typeNode u) (kx_parameterNode u))) (kx_typeNode (kx_sP u (nI (kj_N g + 1)) so le ri li (kx_typeNode u) (kx_parameterNode u))) (kx_parameterNode (kx_sP u (nI (kj_N g + 1)) so le ri li (kx_typeNode u) (kx_parameterNode u))) (kx_values (kx_sP u (nI (kj_N g + 1)) so le ri li (kx_typeNode u) (kx_parameterNode u))) (kx_todoA (kx_sP u (nI (kj_N g + 1)) so le ri li (kx_typeNode u) (kx_parameterNode u))) (kx_todoB (kx_sP u (nI (kj_N g + 1)) so le ri li (kx_typeNode u) (kx_parameterNode u)))) :
    wX_buildType_11 post (nI j) (n + 1) (nI t) (nI p) (kx_count u) (kx_all u) (kx_judged u) (kx_settledSet u) (kx_wellSet u) (kx_nodes u) (kx_arity u) (kx_sizes u) (kx_tokens u) (kx_finished u) (kx_fieldCount u) (kx_need u) (kx_settled u) (kx_trial u) (kx_sort u) (kx_left u) (kx_right u) (kx_link u) (kx_typeNode u) (kx_parameterNode u) (kx_values u) (kx_todoA u) (kx_todoB u) := by
  have q0 : kx_parameterNode u (nI j * 2 + nI p).toNatClampNeg = nI q := by rw [kj_2, kj_cl (by omega)]; exact eq
  refine br_f (nI_pos (by omega)) ⟨kj_in (kj_2 p) (by omega) (by decide), ?_⟩
  exact kj_xnew (u := u) G hN (s := 2) (l := q) (r := t) (Or.inr rfl) hq ht rfl q0 rfl (fun s1 f1 r1 l1 G1 => nm_e (K s1 f1 r1 l1 G1))
theorem kj_xb {post : SX → Prop} {u : SX} {d : kj_D} (h : kj_X d (kx_count u) (kx_arity u) (kx_sizes u) (kx_tokens u)) {j : Nat} (hj : j < 4) {x : Int32} (hx : nI (kj_ar d j) - 1 = x) (n : Nat) (K : wX_buildType_11 post (nI j) n (nI 0) x (kx_count u) (kx_all u) (kx_judged u) (kx_settledSet u) (kx_wellSet u) (kx_nodes u) (kx_arity u) (kx_sizes u) (kx_tokens u) (kx_finished u) (kx_fieldCount u) (kx_need u) (kx_settled u) (kx_trial u) (kx_sort u) (kx_left u) (kx_right u) (kx_link u) (kx_typeNode u) (kx_parameterNode u) (kx_values u) (kx_todoA u) (kx_todoB u)) : wpX_buildType post u (nI j) := by
  have aq : kx_arity u (nI j).toNatClampNeg - 1 = x := by rw [kj_cl (by omega), ← hx]; exact congrArg (· - 1) (h.2.2.1 j)
  exact And.intro (vp_in_nI hj (by decide)) (nm_r aq ⟨n, K⟩)
abbrev kj_xbK (post : SX → Prop) (u : SX) (d : kj_D) (g : kj_G) (pn : Nat → Nat) (j : Nat) : Prop := ∀ (n : Int32) (s f r l : Nat → Int32) (g' : kj_G) (t : Nat), kj_GR n s f r l g' → kj_BD d g g' pn j t → post (kx_sP u n s f r l (upd (kx_typeNode u) j (nI t)) (kx_parameterNode u))
theorem kj_xbuild0 {post : SX → Prop} {u : SX} {d : kj_D} {g : kj_G} (h : kj_X d (kx_count u) (kx_arity u) (kx_sizes u) (kx_tokens u)) (G : kj_GR (kx_nodes u) (kx_sort u) (kx_left u) (kx_right u) (kx_link u) g) {j : Nat} (hj : j < 4) {pn : Nat → Nat} (e : kj_ar d j = 0) (K : kj_xbK post u d g pn j) : wpX_buildType post u (nI j) := by
  have b4 := G.1.2.2.1.1.1
  refine kj_xb h hj (x := -1) (by rw [e]; decide) (0 + 1) (kj_xb0 (t := 0) hj (by decide) 0 ?_)
  exact K _ _ _ _ _ g 0 G ⟨kj_Ex_rf g, by omega, ⟨by omega, fun p hp => by omega, fun _ => rfl, fun z => by omega, fun z => by omega⟩, fun V num M _ => ⟨V, M, fun _ _ => rfl⟩⟩
theorem kj_BD1 {d : kj_D} {g : kj_G} (v : kj_Gv g) {j : Nat} {pn : Nat → Nat} (P : ∀ p, p < kj_ar d j → pn (2 * j + p) < kj_N g) (e : kj_ar d j = 1) : kj_BD d g (kj_nw g 2 (pn (2 * j)) 0) pn j (kj_N g) := by
  have b4 := v.1.1
  have p0 : pn (2 * j) < kj_N g := P 0 (by omega)
  have at1 := kj_nw_at (g := g) (s := 2) (l := pn (2 * j)) (r := 0)
  refine ⟨kj_nw_Ex g 2 _ 0, by show kj_N g + 1 ≤ _; omega, ⟨Nat.lt_succ_self _, fun p hp => Nat.lt_succ_of_lt (P p hp), fun z => by omega, fun _ => ⟨at1.1, at1.2.1, at1.2.2.1⟩, fun z => by omega⟩, fun V num M H => ?_⟩
  have n0 : num (2 * j) < 4 ∧ V (pn (2 * j)) = kj_co (num (2 * j)) := H 0 (by omega)
  have l := kj_L1 (num (2 * j)) n0.1
  have v0 : V 0 = 0 := kj_Md_b v M 0 (by decide)
  exact ⟨_, kj_nw_Md v M (c := 1 + num (2 * j)) (by omega) p0 (by omega) (by decide) (fun _ => ⟨by omega, l.1.trans n0.2.symm, l.2.trans v0.symm⟩), fun n hn => kj_un (by omega)⟩
theorem kj_xbuild1 {post : SX → Prop} {u : SX} {d : kj_D} {g : kj_G} (h : kj_X d (kx_count u) (kx_arity u) (kx_sizes u) (kx_tokens u)) (G : kj_GR (kx_nodes u) (kx_sort u) (kx_left u) (kx_right u) (kx_link u) g) (hN : kj_N g + 2 ≤ 240) {j : Nat} (hj : j < 4) {pn : Nat → Nat} (P : ∀ p, p < kj_ar d j → kx_parameterNode u (2 * j + p) = nI (pn (2 * j + p)) ∧ pn (2 * j + p) < kj_N g) (e : kj_ar d j = 1) (K : kj_xbK post u d g pn j) : wpX_buildType post u (nI j) := by
  have v := G.1.2.2.1
  have b4 := v.1.1
  have p0 : kx_parameterNode u (2 * j + 0) = nI (pn (2 * j)) ∧ pn (2 * j) < kj_N g := P 0 (by omega)
  refine kj_xb h hj (x := nI 0) (by rw [e]; decide) (0 + 1 + 1) (kj_xb1 G (by omega) hj (by decide) p0.1 p0.2 (by omega) (0 + 1) (fun so le ri li G1 => ?_))
  have m1 : nI 0 + (-1) = -1 := by decide
  rw [m1]
  exact kj_xb0 hj (by omega) 0 (K _ _ _ _ _ _ (kj_N g) G1 (kj_BD1 v (fun p hp => (P p hp).2) e))
theorem kj_BD2 {d : kj_D} {g : kj_G} (v : kj_Gv g) {j : Nat} {pn : Nat → Nat} (P : ∀ p, p < kj_ar d j → pn (2 * j + p) < kj_N g) (e : kj_ar d j = 2) : kj_BD d g (kj_nw (kj_nw g 2 (pn (2 * j + 1)) 0) 2 (pn (2 * j)) (kj_N g)) pn j (kj_N g + 1) := by
  have b4 := v.1.1
  have p0 : pn (2 * j) < kj_N g := P 0 (by omega)
  have p1 : pn (2 * j + 1) < kj_N g := P 1 (by omega)
  have at1 := kj_nw_at (g := g) (s := 2) (l := pn (2 * j + 1)) (r := 0)
  have at2 := kj_nw_at (g := kj_nw g 2 (pn (2 * j + 1)) 0) (s := 2) (l := pn (2 * j)) (r := kj_N g)
  have lo2 := kj_nw_lo (g := kj_nw g 2 (pn (2 * j + 1)) 0) (s := 2) (l := pn (2 * j)) (r := kj_N g) (n := kj_N g) (Nat.lt_succ_self _)
  refine ⟨kj_Ex_tr (kj_nw_Ex g 2 _ 0) (kj_nw_Ex _ 2 _ _), by show kj_N g + 1 + 1 ≤ _; omega, ⟨Nat.lt_succ_self _, fun p hp => Nat.lt_succ_of_lt (Nat.lt_succ_of_lt (P p hp)), fun z => by omega, fun z => by omega, fun _ => ⟨at2.1, at2.2.1, kj_N g, by show kj_N g < kj_N g + 1 + 1; omega, at2.2.2.1, lo2.1.trans at1.1, lo2.2.1.trans at1.2.1, lo2.2.2.1.trans at1.2.2.1⟩⟩, fun V num M H => ?_⟩
  have n0 : num (2 * j) < 4 ∧ V (pn (2 * j)) = kj_co (num (2 * j)) := H 0 (by omega)
  have n1 : num (2 * j + 1) < 4 ∧ V (pn (2 * j + 1)) = kj_co (num (2 * j + 1)) := H 1 (by omega)
  have l := kj_L5 (num (2 * j)) n0.1 (num (2 * j + 1)) n1.1
  have l1 := kj_L1 (num (2 * j + 1)) n1.1
  have v0 : V 0 = 0 := kj_Md_b v M 0 (by decide)
  have M1 := kj_nw_Md v M (s := 2) (l := pn (2 * j + 1)) (r := 0) (c := 1 + num (2 * j + 1)) (by omega) p1 (by omega) (by decide) (fun _ => ⟨by omega, l1.1.trans n1.2.symm, l1.2.trans v0.symm⟩)
  have v1 := kj_nw_Gv v (s := 2) (l := pn (2 * j + 1)) (r := 0) (Or.inr rfl) p1 (by omega)
  have M2 := kj_nw_Md v1 M1 (s := 2) (l := pn (2 * j)) (r := kj_N g) (c := 5 + 4 * num (2 * j) + num (2 * j + 1)) (by omega) (by show _ < kj_N g + 1; omega) (by show kj_N g < kj_N g + 1; omega) (by decide) (fun _ => ⟨by omega, by rw [l.1, kj_un (by omega), n0.2], by rw [l.2, kj_us]⟩)
  refine ⟨_, M2, fun n hn => ?_⟩
  rw [kj_un (by show n ≠ kj_N g + 1; omega), kj_un (by omega)]
theorem kj_xbuild2 {post : SX → Prop} {u : SX} {d : kj_D} {g : kj_G} (h : kj_X d (kx_count u) (kx_arity u) (kx_sizes u) (kx_tokens u)) (G : kj_GR (kx_nodes u) (kx_sort u) (kx_left u) (kx_right u) (kx_link u) g) (hN : kj_N g + 2 ≤ 240) {j : Nat} (hj : j < 4) {pn : Nat → Nat} (P : ∀ p, p < kj_ar d j → kx_parameterNode u (2 * j + p) = nI (pn (2 * j + p)) ∧ pn (2 * j + p) < kj_N g) (e : kj_ar d j = 2) (K : kj_xbK post u d g pn j) : wpX_buildType post u (nI j) := by
  have v := G.1.2.2.1
  have b4 := v.1.1
  have p0 : kx_parameterNode u (2 * j + 0) = nI (pn (2 * j)) ∧ pn (2 * j) < kj_N g := P 0 (by omega)
  have p1 : kx_parameterNode u (2 * j + 1) = nI (pn (2 * j + 1)) ∧ pn (2 * j + 1) < kj_N g := P 1 (by omega)
  refine kj_xb h hj (x := nI 1) (by rw [e]; decide) (0 + 1 + 1 + 1) (kj_xb1 G (by omega) hj (by decide) p1.1 p1.2 (by omega) (0 + 1 + 1) (fun s1 f1 r1 l1 G1 => ?_))
  have m0 : nI 1 + (-1) = nI 0 := by decide
  rw [m0]
  refine kj_xb1 (u := kx_sP u (nI (kj_N g + 1)) s1 f1 r1 l1 (kx_typeNode u) (kx_parameterNode u)) G1 (by show kj_N g + 1 < 240; omega) hj (by decide) p0.1 (by show _ < kj_N g + 1; omega) (by show _ < kj_N g + 1; omega) (0 + 1) (fun s2 f2 r2 l2 G2 => ?_)
  have m1 : nI 0 + (-1) = -1 := by decide
  rw [m1]
  refine kj_xb0 (u := kx_sP (kx_sP u (nI (kj_N g + 1)) s1 f1 r1 l1 (kx_typeNode u) (kx_parameterNode u)) (nI (kj_N g + 1 + 1)) s2 f2 r2 l2 (kx_typeNode u) (kx_parameterNode u)) (t := kj_N g + 1) hj (by omega) 0 ?_
  exact K _ _ _ _ _ _ (kj_N g + 1) G2 (kj_BD2 v (fun p hp => (P p hp).2) e)
theorem kj_xbuild {post : SX → Prop} {u : SX} {d : kj_D} {g : kj_G} (h : kj_X d (kx_count u) (kx_arity u) (kx_sizes u) (kx_tokens u)) (G : kj_GR (kx_nodes u) (kx_sort u) (kx_left u) (kx_right u) (kx_link u) g) (hN : kj_N g + 2 ≤ 240) {j : Nat} (hj : j < 4) {pn : Nat → Nat} (P : ∀ p, p < kj_ar d j → kx_parameterNode u (2 * j + p) = nI (pn (2 * j + p)) ∧ pn (2 * j + p) < kj_N g)
    (K : ∀ (n : Int32) (s f r l : Nat → Int32) (g' : kj_G) (t : Nat), kj_GR n s f r l g' → kj_BD d g g' pn j t → post (kx_sP u n s f r l (upd (kx_typeNode u) j (nI t)) (kx_parameterNode u))) : wpX_buildType post u (nI j) := by
  have h2 := h.1.2.1 j
  rcases Nat.lt_or_ge (kj_ar d j) 1 with z | z
  · exact kj_xbuild0 h G hj (by omega) K
  · rcases Nat.lt_or_ge (kj_ar d j) 2 with y | y
    · exact kj_xbuild1 h G hN hj P (by omega) K
    · exact kj_xbuild2 h G hN hj P (by omega) K
/-- type j stands in the graph -/
def kj_BT (d : kj_D) (g : kj_G) (pA tA : Nat → Int32) (pn tn : Nat → Nat) (j : Nat) : Prop := (∀ p, p < kj_ar d j → pA (2 * j + p) = nI (pn (2 * j + p))) ∧ tA j = nI (tn j) ∧ kj_TN d g pn j (tn j)
end
section
/-! ===== X: unknownType, settledType ===== -/
theorem kj_q2 {j p q : Nat} (hp : p < 2) (h : q / 2 ≠ j) : q ≠ 2 * j + p := by omega
theorem kj_xunk2 {post : SX → Prop} {u : SX} {d : kj_D} {g : kj_G} (h : kj_X d (kx_count u) (kx_arity u) (kx_sizes u) (kx_tokens u)) (v : kj_Gv g) (hN : kj_N g + 4 ≤ 240) {j : Nat} (hj : j < 4)
    (K : ∀ (n : Int32) (s f r l pA : Nat → Int32) (g' : kj_G) (pn : Nat → Nat) (t : Nat), kj_GR n s f r l g' → kj_Ex g g' → kj_N g' ≤ kj_N g + 4 → (∀ p, p < kj_ar d j → pA (2 * j + p) = nI (pn (2 * j + p))) → (∀ q, q / 2 ≠ j → pA q = kx_parameterNode u q) → kj_TN d g' pn j t →
      (∀ V num : Nat → Nat, kj_Md g V → (∀ p, p < kj_ar d j → num (2 * j + p) < 4) → ∃ V', kj_Md g' V' ∧ (∀ n, n < kj_N g → V' n = V n) ∧ ∀ p, p < kj_ar d j → V' (pn (2 * j + p)) = kj_co (num (2 * j + p))) →
      post (kx_sP u n s f r l (upd (kx_typeNode u) j (nI t)) pA)) :
    ∀ (m p : Nat) (n : Int32) (s f r l pA : Nat → Int32) (g' : kj_G) (pn : Nat → Nat), p + m = kj_ar d j → kj_GR n s f r l g' → kj_Ex g g' → kj_N g' ≤ kj_N g + p →
      (∀ p', p' < p → pA (2 * j + p') = nI (pn (2 * j + p')) ∧ pn (2 * j + p') < kj_N g') → (∀ q, q / 2 ≠ j → pA q = kx_parameterNode u q) →
      (∀ V num : Nat → Nat, kj_Md g V → (∀ p, p < kj_ar d j → num (2 * j + p) < 4) → ∃ V', kj_Md g' V' ∧ (∀ n, n < kj_N g → V' n = V n) ∧ ∀ p', p' < p → V' (pn (2 * j + p')) = kj_co (num (2 * j + p'))) →
      wX_unknownType_2 post (nI j) (m + 1) (nI p) (kx_count (kx_sP u n s f r l (kx_typeNode u) pA)) (kx_all (kx_sP u n s f r l (kx_typeNode u) pA)) (kx_judged (kx_sP u n s f r l (kx_typeNode u) pA)) (kx_settledSet (kx_sP u n s f r l (kx_typeNode u) pA)) (kx_wellSet (kx_sP u n s f r l (kx_typeNode u) pA)) (kx_nodes (kx_sP u n s f r l (kx_typeNode u) pA)) (kx_arity (kx_sP u n s f r l (kx_typeNode u) pA)) (kx_sizes (kx_sP u n s f r l (kx_typeNode u) pA)) (kx_tokens (kx_sP u n s f r l (kx_typeNode u) pA)) (kx_finished (kx_sP u n s f r l (kx_typeNode u) pA)) (kx_fieldCount (kx_sP u n s f r l (kx_typeNode u) pA)) (kx_need (kx_sP u n s f r l (kx_typeNode u) pA)) (kx_settled (kx_sP u n s f r l (kx_typeNode u) pA)) (kx_trial (kx_sP u n s f r l (kx_typeNode u) pA)) (kx_sort (kx_sP u n s f r l (kx_typeNode u) pA)) (kx_left (kx_sP u n s f r l (kx_typeNode u) pA)) (kx_right (kx_sP u n s f r l (kx_typeNode u) pA)) (kx_link (kx_sP u n s f r l (kx_typeNode u) pA)) (kx_typeNode (kx_sP u n s f r l (kx_typeNode u) pA)) (kx_parameterNode (kx_sP u n s f r l (kx_typeNode u) pA)) (kx_values (kx_sP u n s f r l (kx_typeNode u) pA)) (kx_todoA (kx_sP u n s f r l (kx_typeNode u) pA)) (kx_todoB (kx_sP u n s f r l (kx_typeNode u) pA)) := by
  have inj : vp_in (nI j) 4 := vp_in_nI hj (by decide)
  have cj : (nI j).toNatClampNeg = j := kj_cl (by omega)
  have aj : kx_arity u (nI j).toNatClampNeg = nI (kj_ar d j) := by rw [cj]; exact h.2.2.1 j
  have h2 := h.1.2.1 j
  intro m
  induction m with
  | zero =>
    intro p n s f r l pA g' pn hp G E hb P Q MM
    have ep : p = kj_ar d j := by omega
    subst ep
    refine And.intro inj (pk_le (kj_ar d j) (kj_ar d j) (fun _ => ?_) (fun z => by omega) aj rfl (by omega) (by omega))
    refine kj_xbuild (u := kx_sP u n s f r l (kx_typeNode u) pA) (d := d) (g := g') h G (by omega) hj (pn := pn) P (fun n' s' f' r' l' g'' t G' B => ?_)
    refine K n' s' f' r' l' pA g'' pn t G' (kj_Ex_tr E B.1) (by have := B.2.1; omega) (fun p hp => (P p hp).1) Q B.2.2.1 (fun V num M hn => ?_)
    obtain ⟨V1, M1, e1, e2⟩ := MM V num M hn
    obtain ⟨V2, M2, e3⟩ := B.2.2.2 V1 num M1 (fun p hp => ⟨hn p hp, e2 p hp⟩)
    exact ⟨V2, M2, fun n hn => (e3 n (Nat.lt_of_lt_of_le hn E.1)).trans (e1 n hn), fun p hp => (e3 _ (P p hp).2).trans (e2 p hp)⟩
  | succ m ih =>
    intro p n s f r l pA g' pn hp G E hb P Q MM
    have v' := G.1.2.2.1
    have b4 := v'.1.1
    have ip : vp_in (nI j * 2 + nI p) 8 := kj_in (kj_2 p) (by omega) (by decide)
    have cp : (nI j * 2 + nI p).toNatClampNeg = 2 * j + p := by rw [kj_2]; exact kj_cl (by omega)
    refine And.intro inj (pk_le (kj_ar d j) p (fun z => by omega) (fun _ => ?_) aj rfl (by omega) (by omega))
    refine kj_xnew (u := kx_sP u n s f r l (kx_typeNode u) pA) G (by omega) (s := 0) (l := 0) (r := 0) (Or.inl rfl) (by omega) (by omega) rfl rfl rfl (fun s1 f1 r1 l1 G1 => ?_)
    refine ⟨ip, nm_r (e' := upd pA (2 * j + p) (nI (kj_N g'))) (by rw [cp, kj_ns (by omega)]) (nm_r (nI_1 p) ?_)⟩
    refine ih (p + 1) _ s1 f1 r1 l1 (upd pA (2 * j + p) (nI (kj_N g'))) (kj_nw g' 0 0 0) (kj_up pn (2 * j + p) (kj_N g')) (by omega) G1 (kj_Ex_tr E (kj_nw_Ex g' 0 0 0)) (by show kj_N g' + 1 ≤ _; omega) (fun p' hp' => ?_) (fun q hq => ?_) (fun V num M hn => ?_)
    · rcases Nat.lt_or_ge p' p with z | z
      · have hne : 2 * j + p' ≠ 2 * j + p := by omega
        rw [pk_un hne, kj_un hne]
        have := P p' z
        exact ⟨this.1, Nat.lt_succ_of_lt this.2⟩
      · have e : p' = p := by omega
        subst e
        rw [pk_us, kj_us]
        exact ⟨rfl, Nat.lt_succ_self _⟩
    · rw [pk_un (kj_q2 (by omega) hq)]; exact Q q hq
    · obtain ⟨V1, M1, e1, e2⟩ := MM V num M hn
      have M2 := kj_nw_Md v' M1 (s := 0) (l := 0) (r := 0) (c := kj_co (num (2 * j + p))) (kj_co_le _ (hn p (by omega))) (by omega) (by omega) (by decide) (fun z => absurd z (by decide))
      refine ⟨_, M2, fun n hn => ?_, fun p' hp' => ?_⟩
      · rw [kj_un (by have := E.1; omega)]; exact e1 n hn
      · rcases Nat.lt_or_ge p' p with z | z
        · have hne : 2 * j + p' ≠ 2 * j + p := by omega
          have := P p' z
          rw [kj_un hne, kj_un (by omega)]
          exact e2 p' z
        · have e : p' = p := by omega
          subst e
          rw [kj_us, kj_us]
theorem kj_xunk {post : SX → Prop} {u : SX} {d : kj_D} {g : kj_G} (h : kj_X d (kx_count u) (kx_arity u) (kx_sizes u) (kx_tokens u)) (G : kj_GR (kx_nodes u) (kx_sort u) (kx_left u) (kx_right u) (kx_link u) g) (hN : kj_N g + 4 ≤ 240) {j : Nat} (hj : j < 4)
    (K : ∀ (n : Int32) (s f r l pA : Nat → Int32) (g' : kj_G) (pn : Nat → Nat) (t : Nat), kj_GR n s f r l g' → kj_Ex g g' → kj_N g' ≤ kj_N g + 4 → (∀ p, p < kj_ar d j → pA (2 * j + p) = nI (pn (2 * j + p))) → (∀ q, q / 2 ≠ j → pA q = kx_parameterNode u q) → kj_TN d g' pn j t →
      (∀ V num : Nat → Nat, kj_Md g V → (∀ p, p < kj_ar d j → num (2 * j + p) < 4) → ∃ V', kj_Md g' V' ∧ (∀ n, n < kj_N g → V' n = V n) ∧ ∀ p, p < kj_ar d j → V' (pn (2 * j + p)) = kj_co (num (2 * j + p))) →
      post (kx_sP u n s f r l (upd (kx_typeNode u) j (nI t)) pA)) : wpX_unknownType post u (nI j) :=
  Exists.intro (kj_ar d j + 1) (kj_xunk2 h G.1.2.2.1 hN hj K (kj_ar d j) 0 (kx_nodes u) (kx_sort u) (kx_left u) (kx_right u) (kx_link u) (kx_parameterNode u) g (fun _ => 0) (Nat.zero_add _) G (kj_Ex_rf g) (Nat.le_refl _) (fun p' hp' => absurd hp' (Nat.not_lt_zero _)) (fun _ _ => rfl) (fun V num M _ => ⟨V, M, fun _ _ => rfl, fun p' hp' => absurd hp' (Nat.not_lt_zero _)⟩))
theorem kj_xset2 {post : SX → Prop} {u : SX} {d : kj_D} {g : kj_G} (h : kj_X d (kx_count u) (kx_arity u) (kx_sizes u) (kx_tokens u)) (G : kj_GR (kx_nodes u) (kx_sort u) (kx_left u) (kx_right u) (kx_link u) g) (hN : kj_N g + 2 ≤ 240) {j : Nat} (hj : j < 4) {num : Nat → Nat} (hs : ∀ p, p < kj_ar d j → kx_settled u (2 * j + p) = nI (num (2 * j + p)) ∧ num (2 * j + p) < 4)
    (K : ∀ (n : Int32) (s f r l pA : Nat → Int32) (g' : kj_G) (t : Nat), kj_GR n s f r l g' → kj_Ex g g' → kj_N g' ≤ kj_N g + 2 → (∀ p, p < kj_ar d j → pA (2 * j + p) = nI (num (2 * j + p))) → (∀ q, q / 2 ≠ j → pA q = kx_parameterNode u q) → kj_TN d g' num j t →
      (∀ V, kj_Md g V → ∃ V', kj_Md g' V' ∧ ∀ n, n < kj_N g → V' n = V n) → post (kx_sP u n s f r l (upd (kx_typeNode u) j (nI t)) pA)) :
    ∀ (m p : Nat) (pA : Nat → Int32), p + m = kj_ar d j → (∀ p', p' < p → pA (2 * j + p') = nI (num (2 * j + p'))) → (∀ q, q / 2 ≠ j → pA q = kx_parameterNode u q) →
      wX_settledType_2 post (nI j) (kx_count u) (kx_all u) (kx_judged u) (kx_settledSet u) (kx_wellSet u) (kx_nodes u) (m + 1) (nI p) (kx_arity u) (kx_sizes u) (kx_tokens u) (kx_finished u) (kx_fieldCount u) (kx_need u) (kx_settled u) (kx_trial u) (kx_sort u) (kx_left u) (kx_right u) (kx_link u) (kx_typeNode u) (pA) (kx_values u) (kx_todoA u) (kx_todoB u) := by
  have inj : vp_in (nI j) 4 := vp_in_nI hj (by decide)
  have cj : (nI j).toNatClampNeg = j := kj_cl (by omega)
  have aj : kx_arity u (nI j).toNatClampNeg = nI (kj_ar d j) := by rw [cj]; exact h.2.2.1 j
  have h2 := h.1.2.1 j
  have v := G.1.2.2.1
  have b4 := v.1.1
  intro m
  induction m with
  | zero =>
    intro p pA hp P Q
    have ep : p = kj_ar d j := by omega
    subst ep
    refine And.intro inj (pk_le (kj_ar d j) (kj_ar d j) (fun _ => ?_) (fun z => by omega) aj rfl (by omega) (by omega))
    refine kj_xbuild (u := ((kx_count u), (kx_all u), (kx_judged u), (kx_settledSet u), (kx_wellSet u), (kx_nodes u), (kx_arity u), (kx_sizes u), (kx_tokens u), (kx_finished u), (kx_fieldCount u), (kx_need u), (kx_settled u), (kx_trial u), (kx_sort u), (kx_left u), (kx_right u), (kx_link u), (kx_typeNode u), (pA), (kx_values u), (kx_todoA u), (kx_todoB u))) (d := d) (g := g) h G hN hj (pn := num) (fun p hp => ⟨P p hp, by have := (hs p hp).2; omega⟩) (fun n' s' f' r' l' g'' t G' B => ?_)
    exact K n' s' f' r' l' pA g'' t G' B.1 B.2.1 P Q B.2.2.1 (fun V M => B.2.2.2 V num M (fun p hp => ⟨(hs p hp).2, kj_Md_b v M _ (hs p hp).2⟩))
  | succ m ih =>
    intro p pA hp P Q
    have ip : vp_in (nI j * 2 + nI p) 8 := kj_in (kj_2 p) (by omega) (by decide)
    have cp : (nI j * 2 + nI p).toNatClampNeg = 2 * j + p := by rw [kj_2]; exact kj_cl (by omega)
    have sp := hs p (by omega)
    refine And.intro inj (pk_le (kj_ar d j) p (fun z => by omega) (fun _ => ?_) aj rfl (by omega) (by omega))
    refine ⟨ip, ip, nm_r (e' := upd pA (2 * j + p) (nI (num (2 * j + p)))) (by rw [cp, sp.1, kj_ns (by omega)]) (nm_r (nI_1 p) ?_)⟩
    refine ih (p + 1) _ (by omega) (fun p' hp' => ?_) (fun q hq => ?_)
    · rcases Nat.lt_or_ge p' p with z | z
      · rw [pk_un (by omega)]; exact P p' z
      · have e : p' = p := by omega
        subst e
        exact pk_us
    · rw [pk_un (kj_q2 (by omega) hq)]; exact Q q hq
theorem kj_xset {post : SX → Prop} {u : SX} {d : kj_D} {g : kj_G} (h : kj_X d (kx_count u) (kx_arity u) (kx_sizes u) (kx_tokens u)) (G : kj_GR (kx_nodes u) (kx_sort u) (kx_left u) (kx_right u) (kx_link u) g) (hN : kj_N g + 2 ≤ 240) {j : Nat} (hj : j < 4) {num : Nat → Nat} (hs : ∀ p, p < kj_ar d j → kx_settled u (2 * j + p) = nI (num (2 * j + p)) ∧ num (2 * j + p) < 4)
    (K : ∀ (n : Int32) (s f r l pA : Nat → Int32) (g' : kj_G) (t : Nat), kj_GR n s f r l g' → kj_Ex g g' → kj_N g' ≤ kj_N g + 2 → (∀ p, p < kj_ar d j → pA (2 * j + p) = nI (num (2 * j + p))) → (∀ q, q / 2 ≠ j → pA q = kx_parameterNode u q) → kj_TN d g' num j t →
      (∀ V, kj_Md g V → ∃ V', kj_Md g' V' ∧ ∀ n, n < kj_N g → V' n = V n) → post (kx_sP u n s f r l (upd (kx_typeNode u) j (nI t)) pA)) : wpX_settledType post u (nI j) :=
  Exists.intro (kj_ar d j + 1) (kj_xset2 h G hN hj hs K (kj_ar d j) 0 (kx_parameterNode u) (Nat.zero_add _) (fun p' hp' => absurd hp' (Nat.not_lt_zero _)) (fun _ _ => rfl))
end
section
/-! ===== X: fieldsFit ===== -/
abbrev kx_sF (u : SX) (n : Int32) (s f r l x a b : Nat → Int32) : SX := ((kx_count u), (kx_all u), (kx_judged u), (kx_settledSet u), (kx_wellSet u), (n), (kx_arity u), (kx_sizes u), (kx_tokens u), (kx_finished u), (kx_fieldCount u), (kx_need u), (kx_settled u), (kx_trial u), (s), (f), (r), (l), (kx_typeNode u), (kx_parameterNode u), (x), (a), (b))
def kj_VS (a : Nat → Int32) : List Nat → Prop
  | [] => True
  | n :: r => a r.length = nI n ∧ kj_VS a r
theorem kj_VS_f {a a' : Nat → Int32} : ∀ {r : List Nat}, (∀ j, j < r.length → a' j = a j) → kj_VS a r → kj_VS a' r
  | [], _, _ => True.intro
  | n :: r, h, t => ⟨(h r.length (Nat.lt_succ_self _)).trans t.1, kj_VS_f (r := r) (fun j hj => h j (Nat.lt_succ_of_lt hj)) t.2⟩
theorem kj_VS_m {a : Nat → Int32} : ∀ {ns : List Nat}, kj_VS a ns → ∀ n, n ∈ ns → ∃ j, j < ns.length ∧ a j = nI n
  | [], _, n, h => absurd h List.not_mem_nil
  | m :: r, t, n, h => by
    rcases List.mem_cons.mp h with z | z
    · subst z; exact ⟨r.length, Nat.lt_succ_self _, t.1⟩
    · obtain ⟨j, hj, e⟩ := kj_VS_m (ns := r) t.2 n z
      exact ⟨j, Nat.lt_succ_of_lt hj, e⟩
theorem kj_VS_a {a : Nat → Int32} : ∀ {ns : List Nat}, kj_VS a ns → ∀ j, j < ns.length → ∃ n, n ∈ ns ∧ a j = nI n
  | [], _, j, h => absurd h (Nat.not_lt_zero _)
  | m :: r, t, j, h => by
    rcases Nat.lt_or_ge j r.length with z | z
    · obtain ⟨n, hn, e⟩ := kj_VS_a (ns := r) t.2 j z
      exact ⟨n, List.mem_cons_of_mem _ hn, e⟩
    · have h' : j < r.length + 1 := h
      have e : j = r.length := by omega
      subst e
      exact ⟨m, List.mem_cons_self .., t.1⟩
def kj_Ds (g : kj_G) : List Nat → List Nat → Prop
  | [], [] => True
  | n :: ns, c :: cs => kj_De g c n ∧ kj_Ds g ns cs
  | _, _ => False
theorem kj_Ds_c {g : kj_G} {n : Nat} {ns cs : List Nat} (h : kj_Ds g (n :: ns) cs) : ∃ c r, cs = c :: r ∧ kj_De g c n ∧ kj_Ds g ns r := by
  cases cs with
  | nil => exact False.elim h
  | cons c r => exact ⟨c, r, rfl, h.1, h.2⟩
theorem kj_Ds_0 {g : kj_G} : ∀ {ns cs : List Nat}, (∀ q, q ∈ ns → kj_De g 0 q) → kj_Ds g ns cs → ∀ c, c ∈ cs → c = 0
  | [], [], _, _, c, h => absurd h List.not_mem_nil
  | [], c' :: cs, _, t, _, _ => False.elim t
  | n :: ns, [], _, t, _, _ => False.elim t
  | n :: ns, c' :: cs, H, t, c, h => by
    rcases List.mem_cons.mp h with z | z
    · rw [z]; exact kj_De_fn t.1 (H n (List.mem_cons_self ..))
    · exact kj_Ds_0 (ns := ns) (cs := cs) (fun q hq => H q (List.mem_cons_of_mem _ hq)) t.2 c z
def kj_PV (d : kj_D) (B : Nat → Prop) (pn V ch : Nat → Nat) : Prop := ∀ j, B j → ∀ p, p < kj_ar d j → ch (2 * j + p) < 4 ∧ V (pn (2 * j + p)) = kj_co (ch (2 * j + p))
def kj_PD (d : kj_D) (B : Nat → Prop) (pn : Nat → Nat) (g : kj_G) (num : Nat → Nat) : Prop := ∀ j, B j → ∀ p, p < kj_ar d j → num (2 * j + p) < 4 ∧ kj_De g (kj_co (num (2 * j + p))) (pn (2 * j + p))
def kj_ln (pn tn : Nat → Nat) (i t : Nat) : Nat := if t < 3 then pn (2 * i + t - 1) else if t < 7 then t - 3 else tn (t - 7)
/-- token t of type i has a node -/
def kj_lo (d : kj_D) (B : Nat → Prop) (i t : Nat) : Prop := t ≠ 0 ∧ t ≤ 10 ∧ (t < 3 → t - 1 < kj_ar d i) ∧ (7 ≤ t → B (t - 7))
theorem kj_ln_lt {d : kj_D} {g : kj_G} {pA tA : Nat → Int32} {pn tn : Nat → Nat} {B : Nat → Prop} (v : kj_Gv g) (HB : ∀ j, B j → kj_BT d g pA tA pn tn j) {i t : Nat} (bi : B i) (o : kj_lo d B i t) : kj_ln pn tn i t < kj_N g := by
  have b4 := v.1.1
  unfold kj_ln
  rcases Nat.lt_or_ge t 3 with z | z
  · rw [if_pos z]
    have q := (HB i bi).2.2.2.1 (t - 1) (o.2.2.1 z)
    rw [show 2 * i + t - 1 = 2 * i + (t - 1) by have := o.1; omega]
    exact q
  · rw [if_neg (by omega)]
    rcases Nat.lt_or_ge t 7 with y | y
    · rw [if_pos y]; omega
    · rw [if_neg (by omega)]; exact (HB _ (o.2.2.2 y)).2.2.1
theorem kj_ln_De {d : kj_D} {g0 g : kj_G} {pA tA : Nat → Int32} {pn tn num : Nat → Nat} {B : Nat → Prop} (ok : kj_ok d) (E : kj_Ex g0 g) (v : kj_Gv g) (cg : kj_Cg g) (HB : ∀ j, B j → kj_BT d g0 pA tA pn tn j) (P : kj_PD d B pn g num) {i t : Nat} (bi : B i) (o : kj_lo d B i t) : kj_De g (kj_lf (kj_ar d) num i t) (kj_ln pn tn i t) := by
  unfold kj_ln kj_lf
  rcases Nat.lt_or_ge t 3 with z | z
  · rw [if_pos z, if_pos z]
    have q := P i bi (t - 1) (o.2.2.1 z)
    rw [show 2 * i + t - 1 = 2 * i + (t - 1) by have := o.1; omega]
    exact q.2
  · have z' : ¬ t < 3 := by omega
    rw [if_neg z', if_neg z']
    rcases Nat.lt_or_ge t 7 with y | y
    · rw [if_pos y, if_pos y]; exact kj_De_b v cg _ (by omega)
    · have y' : ¬ t < 7 := by omega
      rw [if_neg y', if_neg y']
      exact kj_TN_De ok v cg (kj_TN_x E (HB _ (o.2.2.2 y)).2.2) (P _ (o.2.2.2 y))
theorem kj_ln_V {d : kj_D} {g0 g : kj_G} {pA tA : Nat → Int32} {pn tn V ch : Nat → Nat} {B : Nat → Prop} (ok : kj_ok d) (E : kj_Ex g0 g) (v : kj_Gv g) (M : kj_Md g V) (HB : ∀ j, B j → kj_BT d g0 pA tA pn tn j) (P : kj_PV d B pn V ch) {i t : Nat} (bi : B i) (o : kj_lo d B i t) : V (kj_ln pn tn i t) = kj_lf (kj_ar d) ch i t := by
  unfold kj_ln kj_lf
  rcases Nat.lt_or_ge t 3 with z | z
  · rw [if_pos z, if_pos z]
    have q := P i bi (t - 1) (o.2.2.1 z)
    rw [show 2 * i + t - 1 = 2 * i + (t - 1) by have := o.1; omega]
    exact q.2
  · have z' : ¬ t < 3 := by omega
    rw [if_neg z', if_neg z']
    rcases Nat.lt_or_ge t 7 with y | y
    · rw [if_pos y, if_pos y]; exact kj_Md_b v M _ (by omega)
    · have y' : ¬ t < 7 := by omega
      rw [if_neg y', if_neg y']
      exact kj_TN_V ok v M (kj_TN_x E (HB _ (o.2.2.2 y)).2.2) (P _ (o.2.2.2 y))
theorem kj_xleaf {post : Int32 → Prop} {u : SX} {d : kj_D} {g : kj_G} {pn tn : Nat → Nat} {B : Nat → Prop} (HB : ∀ j, B j → kj_BT d g (kx_parameterNode u) (kx_typeNode u) pn tn j) (h2 : ∀ j, kj_ar d j ≤ 2) {i t : Nat} (hi : i < 4) (bi : B i) (o : kj_lo d B i t) (K : post (nI (kj_ln pn tn i t))) : wpX_leaf post u (nI i) (nI t) := by
  unfold kj_ln at K
  have t10 := o.2.1
  refine pk_le 3 t (fun z => ?_) (fun z => ?_) rfl rfl (by decide) (by omega)
  · rw [if_neg (by omega)] at K
    refine pk_le 7 t (fun y => ?_) (fun y => ?_) rfl rfl (by decide) (by omega)
    · rw [if_neg (by omega)] at K
      have e : nI t - 7 = nI (t - 7) := pk_sub y
      have q : kx_typeNode u (nI t - 7).toNatClampNeg = nI (tn (t - 7)) := by rw [e, kj_cl (by omega)]; exact (HB _ (o.2.2.2 y)).2.1
      refine ⟨kj_in e (by omega) (by decide), ?_⟩
      rw [← q] at K
      exact K
    · rw [if_pos y] at K
      have e : nI t - 3 = nI (t - 3) := pk_sub z
      rw [← e] at K
      exact K
  · rw [if_pos z] at K
    have t1 := o.1
    have h2i := h2 i
    have a1 := o.2.2.1 z
    have e : nI i * 2 + nI t - 1 = nI (2 * i + (t - 1)) := by
      rw [kj_2]
      show nI (2 * i + t) - nI 1 = _
      rw [pk_sub (by omega), show 2 * i + t - 1 = 2 * i + (t - 1) by omega]
    have q : kx_parameterNode u (nI i * 2 + nI t - 1).toNatClampNeg = nI (pn (2 * i + (t - 1))) := by rw [e, kj_cl (by omega)]; exact (HB i bi).1 (t - 1) a1
    refine ⟨kj_in e (by omega) (by decide), ?_⟩
    rw [show 2 * i + t - 1 = 2 * i + (t - 1) by omega, ← q] at K
    exact K
theorem kj_xfit104 {post : Int32 → SX → Prop} {u : SX} {g1 : kj_G} {x : Nat → Int32} {ns : List Nat} (hx : kj_VS x ns) (hl : ns.length ≤ 20) (hq : ∀ q, q ∈ ns → q < kj_N g1)
    (K1 : ∀ (n : Int32) (s f r l ta tb : Nat → Int32) (g : kj_G), kj_GR n s f r l g → kj_Ex g1 g → kj_N g = kj_N g1 → (∀ q, q ∈ ns → kj_rt g q = kj_rt g 0) → (∀ V, kj_Md g1 V → (∀ q, q ∈ ns → V q = 0) → kj_Md g V) → post 1 (kx_sF u n s f r l x ta tb))
    (K0 : ∀ (n : Int32) (s f r l ta tb : Nat → Int32), (∀ V, kj_Md g1 V → ¬ ∀ q, q ∈ ns → V q = 0) → post 0 (kx_sF u n s f r l x ta tb)) :
    ∀ (m j : Nat) (n : Int32) (s f r l ta tb : Nat → Int32) (g : kj_G), j + m = ns.length → kj_GR n s f r l g → kj_Ex g1 g → kj_N g = kj_N g1 → (∀ a, a < j → ∀ q, q < kj_N g1 → x a = nI q → kj_rt g q = kj_rt g 0) → (∀ V, kj_Md g1 V → (∀ q, q ∈ ns → V q = 0) → kj_Md g V) →
      wX_fieldsFit_104 post (nI ns.length) (m + 1) (nI j) (kx_count (kx_sF u n s f r l x ta tb)) (kx_all (kx_sF u n s f r l x ta tb)) (kx_judged (kx_sF u n s f r l x ta tb)) (kx_settledSet (kx_sF u n s f r l x ta tb)) (kx_wellSet (kx_sF u n s f r l x ta tb)) (kx_nodes (kx_sF u n s f r l x ta tb)) (kx_arity (kx_sF u n s f r l x ta tb)) (kx_sizes (kx_sF u n s f r l x ta tb)) (kx_tokens (kx_sF u n s f r l x ta tb)) (kx_finished (kx_sF u n s f r l x ta tb)) (kx_fieldCount (kx_sF u n s f r l x ta tb)) (kx_need (kx_sF u n s f r l x ta tb)) (kx_settled (kx_sF u n s f r l x ta tb)) (kx_trial (kx_sF u n s f r l x ta tb)) (kx_sort (kx_sF u n s f r l x ta tb)) (kx_left (kx_sF u n s f r l x ta tb)) (kx_right (kx_sF u n s f r l x ta tb)) (kx_link (kx_sF u n s f r l x ta tb)) (kx_typeNode (kx_sF u n s f r l x ta tb)) (kx_parameterNode (kx_sF u n s f r l x ta tb)) (kx_values (kx_sF u n s f r l x ta tb)) (kx_todoA (kx_sF u n s f r l x ta tb)) (kx_todoB (kx_sF u n s f r l x ta tb)) := by
  intro m
  induction m with
  | zero =>
    intro j n s f r l ta tb g hj G E eN D C
    refine pk_le ns.length j (fun _ => ?_) (fun z => by omega) rfl rfl (by omega) (by omega)
    refine K1 n s f r l ta tb g G E eN (fun q mq => ?_) C
    obtain ⟨a, ha, e⟩ := kj_VS_m hx q mq
    exact D a (by omega) q (hq q mq) e
  | succ m ih =>
    intro j n s f r l ta tb g hj G E eN D C
    have v := G.1.2.2.1
    have b4 := v.1.1
    have hN := G.1.2.1
    obtain ⟨q, mq, eq⟩ := kj_VS_a hx j (by omega)
    have lq := hq q mq
    have xj : x (nI j).toNatClampNeg = nI q := by rw [kj_cl (by omega)]; exact eq
    refine pk_le ns.length j (fun z => by omega) (fun _ => ⟨vp_in_nI (by omega) (by decide), ?_⟩) rfl rfl (by omega) (by omega)
    refine kj_xunify (u := kx_sF u n s f r l x ta tb) G (a := q) (b := 0) (by omega) (by omega) xj rfl (fun l' ta' tb' g' G' J => ?_) (fun l' ta' tb' H => ?_)
    · refine br_f (by decide) (nm_r (nI_1 j) ?_)
      refine ih (j + 1) n s f r l' ta' tb' g' (by omega) G' (kj_Ex_tr E J.1) (J.2.1.trans eN) (fun a ha q' hq' e' => ?_) (fun V M Z => ?_)
      · rcases Nat.lt_or_ge a j with z | z
        · exact J.1.2.2 q' 0 (by omega) (by omega) (D a z q' hq' e')
        · have ea : a = j := by omega
          subst ea
          rw [eq, nI_eq (by omega) (by omega)] at e'
          rw [← e']
          exact J.2.2.1
      · have M' := C V M Z
        exact J.2.2.2 V M' ((Z q mq).trans (kj_Md_b v M' 0 (by decide)).symm)
    · refine br_t rfl (K0 n s f r l' ta' tb' (fun V M Z => ?_))
      have M' := C V M Z
      exact H V M' ((Z q mq).trans (kj_Md_b v M' 0 (by decide)).symm)
theorem kj_ff_s {ar num : Nat → Nat} {i : Nat} {t : Nat → Nat} {k : Nat} {st : List Nat} (h : kj_ff ar num i t (k + 1) st) : (t k = 0 → ∃ f a r, st = f :: a :: r ∧ f ≠ 0 ∧ a = kj_L f ∧ kj_ff ar num i t k (kj_R f :: r)) ∧ (t k ≠ 0 → kj_ff ar num i t k (kj_lf ar num i (t k) :: st)) := h
theorem kj_m1s (k : Nat) : nI k + (-1) = nI k - 1 := (Int32.sub_eq_add_neg (nI k) 1).symm
end
section
/-! ===== X: fieldsFit, the loop over the tokens ===== -/
/-- what holds when K tokens are to come: ns are the nodes of the values so far -/
def kj_FS (d : kj_D) (B : Nat → Prop) (pn : Nat → Nat) (i : Nat) (g : kj_G) (K : Nat) (ns : List Nat) : Prop := ∀ g', kj_Ex g g' → kj_Gv g' → kj_Cg g' → ∀ num, kj_PD d B pn g' num → ∃ cs, kj_Ds g' ns cs ∧ (kj_ff (kj_ar d) num i (kj_t d i) K cs → kj_Fit d num i)
def kj_FC (d : kj_D) (B : Nat → Prop) (pn : Nat → Nat) (i : Nat) (g0 g : kj_G) (K : Nat) (ns : List Nat) : Prop := ∀ ch V0, kj_Md g0 V0 → kj_PV d B pn V0 ch → kj_Fit d ch i → ∃ V, kj_Md g V ∧ (∀ n, n < kj_N g0 → V n = V0 n) ∧ kj_ff (kj_ar d) ch i (kj_t d i) K (ns.map V)
theorem kj_PV_x {d : kj_D} {B : Nat → Prop} {pn V V' ch : Nat → Nat} {g : kj_G} (P : kj_PV d B pn V ch) (lt : ∀ j, B j → ∀ p, p < kj_ar d j → pn (2 * j + p) < kj_N g) (e : ∀ n, n < kj_N g → V' n = V n) : kj_PV d B pn V' ch :=
  fun j bj p hp => ⟨(P j bj p hp).1, (e _ (lt j bj p hp)).trans (P j bj p hp).2⟩
theorem kj_FS_leaf {d : kj_D} {B : Nat → Prop} {pn tn : Nat → Nat} {i : Nat} {g0 g : kj_G} {pA tA : Nat → Int32} {K : Nat} {ns : List Nat} (ok : kj_ok d) (E : kj_Ex g0 g) (HB : ∀ j, B j → kj_BT d g0 pA tA pn tn j) (bi : B i) (o : kj_lo d B i (kj_t d i K)) (F : kj_FS d B pn i g (K + 1) ns) : kj_FS d B pn i g K (kj_ln pn tn i (kj_t d i K) :: ns) := by
  intro g' E' v' c' num P
  obtain ⟨cs, D, H⟩ := F g' E' v' c' num P
  exact ⟨kj_lf (kj_ar d) num i (kj_t d i K) :: cs, ⟨kj_ln_De ok (kj_Ex_tr E E') v' c' HB P bi o, D⟩, fun h => H (And.intro (fun z => absurd z o.1) (fun _ => h))⟩
theorem kj_FC_leaf {d : kj_D} {B : Nat → Prop} {pn tn : Nat → Nat} {i : Nat} {g0 g : kj_G} {pA tA : Nat → Int32} {K : Nat} {ns : List Nat} (ok : kj_ok d) (v0 : kj_Gv g0) (HB : ∀ j, B j → kj_BT d g0 pA tA pn tn j) (bi : B i) (o : kj_lo d B i (kj_t d i K)) (F : kj_FC d B pn i g0 g (K + 1) ns) : kj_FC d B pn i g0 g K (kj_ln pn tn i (kj_t d i K) :: ns) := by
  intro ch V0 M0 P Fi
  obtain ⟨V, M, e, H⟩ := F ch V0 M0 P Fi
  refine ⟨V, M, e, ?_⟩
  have q := (kj_ff_s H).2 o.1
  have ev : V (kj_ln pn tn i (kj_t d i K)) = kj_lf (kj_ar d) ch i (kj_t d i K) := by
    rw [e _ (kj_ln_lt v0 HB bi o)]
    exact kj_ln_V ok (kj_Ex_rf g0) v0 M0 HB P bi o
  show kj_ff _ _ _ _ _ (V (kj_ln pn tn i (kj_t d i K)) :: ns.map V)
  rw [ev]
  exact q
theorem kj_FS_app {d : kj_D} {B : Nat → Prop} {pn : Nat → Nat} {i : Nat} {g g1 : kj_G} {K f a : Nat} {r : List Nat} (hf : f < kj_N g) (v1 : kj_N g1 = kj_N g + 2) (h0 : kj_t d i K = 0) (A : kj_AP g g1 f a) (F : kj_FS d B pn i g (K + 1) (f :: a :: r)) : kj_FS d B pn i g1 K (kj_N g :: r) := by
  intro g' E' v' c' num P
  obtain ⟨cs, D, H⟩ := F g' (kj_Ex_tr A.1 E') v' c' num P
  obtain ⟨cf, r1, e1, D1, D'⟩ := kj_Ds_c D
  obtain ⟨ca, r2, e2, D2, D3⟩ := kj_Ds_c D'
  have n1 : kj_N g + 1 < kj_N g1 := by omega
  have q := E'.2.1 (kj_N g + 1) n1
  have s1 : kj_so g' (kj_N g + 1) = 2 := q.1.trans A.2.2.1.1
  have rr : kj_rt g' f = kj_rt g' (kj_N g + 1) := E'.2.2 f (kj_N g + 1) (by omega) n1 A.2.2.2.1
  have I := kj_De_iv v' c' (Nat.lt_of_lt_of_le n1 E'.1) s1 (kj_De_rt rr D1)
  rw [q.2.1, q.2.2, A.2.2.1.2.1, A.2.2.1.2.2] at I
  have ea : ca = kj_L cf := kj_De_fn D2 I.2.2.1
  refine ⟨kj_R cf :: r2, ⟨I.2.2.2, D3⟩, fun h => H ?_⟩
  rw [e1, e2]
  exact And.intro (fun _ => ⟨cf, ca, r2, rfl, I.1, ea, h⟩) (fun z => absurd h0 z)
theorem kj_map_c {V V' : Nat → Nat} {N : Nat} {r : List Nat} (h : ∀ q, q ∈ r → q < N) (e : ∀ n, n < N → V' n = V n) : r.map V' = r.map V := List.map_congr_left (fun q hq => e q (h q hq))
theorem kj_FC_app {d : kj_D} {B : Nat → Prop} {pn : Nat → Nat} {i : Nat} {g0 g g1 : kj_G} {K f a : Nat} {r : List Nat} (E0 : kj_N g0 ≤ kj_N g) (hr : ∀ q, q ∈ r → q < kj_N g) (h0 : kj_t d i K = 0) (A : kj_AP g g1 f a) (F : kj_FC d B pn i g0 g (K + 1) (f :: a :: r)) : kj_FC d B pn i g0 g1 K (kj_N g :: r) := by
  intro ch V0 M0 P Fi
  obtain ⟨V, M, e, H⟩ := F ch V0 M0 P Fi
  obtain ⟨f', a', r', e1, n0, ea, q⟩ := (kj_ff_s H).1 h0
  have e1' : V f :: V a :: r.map V = f' :: a' :: r' := e1
  injection e1' with x1 x2
  injection x2 with x2 x3
  obtain ⟨V', M', e2, e3⟩ := A.2.2.2.2 V M (by rw [x1]; exact n0) (by rw [x1, x2]; exact ea)
  refine ⟨V', M', fun n hn => (e2 n (by omega)).trans (e n hn), ?_⟩
  show kj_ff _ _ _ _ _ (V' (kj_N g) :: r.map V')
  rw [kj_map_c hr e2, e3, x1, x3]
  exact q
theorem kj_FC_no {d : kj_D} {B : Nat → Prop} {pn : Nat → Nat} {i : Nat} {g0 g : kj_G} {K f a : Nat} {r : List Nat} (h0 : kj_t d i K = 0) (A : ∀ V, kj_Md g V → V f ≠ 0 → V a ≠ kj_L (V f)) (F : kj_FC d B pn i g0 g (K + 1) (f :: a :: r)) : ∀ ch V0, kj_Md g0 V0 → kj_PV d B pn V0 ch → ¬ kj_Fit d ch i := by
  intro ch V0 M0 P Fi
  obtain ⟨V, M, e, H⟩ := F ch V0 M0 P Fi
  obtain ⟨f', a', r', e1, n0, ea, q⟩ := (kj_ff_s H).1 h0
  have e1' : V f :: V a :: r.map V = f' :: a' :: r' := e1
  injection e1' with x1 x2
  injection x2 with x2 x3
  exact A V M (by rw [x1]; exact n0) (by rw [x1, x2]; exact ea)
theorem kj_two {ns : List Nat} (h : 2 ≤ ns.length) : ∃ f a r, ns = f :: a :: r := by
  cases ns with
  | nil => exact absurd h (by decide)
  | cons f t =>
    cases t with
    | nil => exact absurd h (by show ¬ 2 ≤ 1; decide)
    | cons a r => exact ⟨f, a, r, rfl⟩
theorem kj_xfit11 {post : Int32 → SX → Prop} {u : SX} {d : kj_D} {g0 : kj_G} {pn tn : Nat → Nat} {B : Nat → Prop} (h : kj_X d (kx_count u) (kx_arity u) (kx_sizes u) (kx_tokens u)) (v0 : kj_Gv g0) (hN : kj_N g0 + 40 ≤ 240) (HB : ∀ j, B j → kj_BT d g0 (kx_parameterNode u) (kx_typeNode u) pn tn j) {i : Nat} (hi : i < 4) (bi : B i) (O : ∀ k, k < kj_e d i → kj_t d i k ≠ 0 → kj_lo d B i (kj_t d i k))
    (K1 : ∀ (n : Int32) (s f r l x ta tb : Nat → Int32) (g : kj_G), kj_GR n s f r l g → kj_Ex g0 g → kj_N g ≤ kj_N g0 + 40 → (∀ g', kj_Ex g g' → kj_Gv g' → kj_Cg g' → ∀ num, kj_PD d B pn g' num → kj_Fit d num i) →
      (∀ ch V0, kj_Md g0 V0 → kj_PV d B pn V0 ch → kj_Fit d ch i → ∃ V, kj_Md g V ∧ ∀ n, n < kj_N g0 → V n = V0 n) → post 1 (kx_sF u n s f r l x ta tb))
    (K0 : ∀ (n : Int32) (s f r l x ta tb : Nat → Int32), (∀ ch V0, kj_Md g0 V0 → kj_PV d B pn V0 ch → ¬ kj_Fit d ch i) → post 0 (kx_sF u n s f r l x ta tb)) :
    ∀ (K : Nat) (ns : List Nat) (n : Int32) (s f r l x ta tb : Nat → Int32) (g : kj_G), K ≤ kj_e d i → kj_GR n s f r l g → kj_Ex g0 g → kj_N g + 2 * K ≤ kj_N g0 + 40 → kj_VS x ns → (∀ q, q ∈ ns → q < kj_N g) → ns.length = kj_dp (kj_t d i) (kj_sz d i) K →
      kj_FS d B pn i g K ns → kj_FC d B pn i g0 g K ns → wX_fieldsFit_11 post (nI i) (K + 1) (nI ns.length) (nI K - 1) (kx_count (kx_sF u n s f r l x ta tb)) (kx_all (kx_sF u n s f r l x ta tb)) (kx_judged (kx_sF u n s f r l x ta tb)) (kx_settledSet (kx_sF u n s f r l x ta tb)) (kx_wellSet (kx_sF u n s f r l x ta tb)) (kx_nodes (kx_sF u n s f r l x ta tb)) (kx_arity (kx_sF u n s f r l x ta tb)) (kx_sizes (kx_sF u n s f r l x ta tb)) (kx_tokens (kx_sF u n s f r l x ta tb)) (kx_finished (kx_sF u n s f r l x ta tb)) (kx_fieldCount (kx_sF u n s f r l x ta tb)) (kx_need (kx_sF u n s f r l x ta tb)) (kx_settled (kx_sF u n s f r l x ta tb)) (kx_trial (kx_sF u n s f r l x ta tb)) (kx_sort (kx_sF u n s f r l x ta tb)) (kx_left (kx_sF u n s f r l x ta tb)) (kx_right (kx_sF u n s f r l x ta tb)) (kx_link (kx_sF u n s f r l x ta tb)) (kx_typeNode (kx_sF u n s f r l x ta tb)) (kx_parameterNode (kx_sF u n s f r l x ta tb)) (kx_values (kx_sF u n s f r l x ta tb)) (kx_todoA (kx_sF u n s f r l x ta tb)) (kx_todoB (kx_sF u n s f r l x ta tb)) := by
  have he := kj_e_20 h.1 i
  intro K
  induction K with
  | zero =>
    intro ns n s f r l x ta tb g hK G E hb hx hq hl FS FC
    have hl20 := kj_dp_le (t := kj_t d i) (n := kj_sz d i) (kj_e d i) 0 (Nat.zero_add _)
    refine br_t (by decide) ⟨ns.length + 1, ?_⟩
    refine kj_xfit104 (g1 := g) hx (by omega) hq (fun n' s' f' r' l' ta' tb' g' G' E' eN R C => ?_) (fun n' s' f' r' l' ta' tb' H => ?_) ns.length 0 n s f r l ta tb g (Nat.zero_add _) G (kj_Ex_rf g) rfl (fun a ha => absurd ha (Nat.not_lt_zero _)) (fun V M _ => M)
    · refine K1 n' s' f' r' l' x ta' tb' g' G' (kj_Ex_tr E E') (by omega) (fun gg E2 v2 c2 num P => ?_) (fun ch V0 M0 P Fi => ?_)
      · obtain ⟨cs, D, H⟩ := FS gg (kj_Ex_tr E' E2) v2 c2 num P
        have d0 := kj_De_b v2 c2 0 (by decide)
        have b4 := G'.1.2.2.1.1.1
        exact H (kj_Ds_0 (fun q mq => kj_De_rt (E2.2.2 q 0 (by have := hq q mq; omega) (by omega) (R q mq)).symm d0) D)
      · obtain ⟨V, M, e, H⟩ := FC ch V0 M0 P Fi
        have H' : ∀ y, y ∈ ns.map V → y = 0 := H
        exact ⟨V, C V M (fun q mq => H' _ (List.mem_map_of_mem mq)), e⟩
    · refine K0 n' s' f' r' l' x ta' tb' (fun ch V0 M0 P Fi => ?_)
      obtain ⟨V, M, e, hh⟩ := FC ch V0 M0 P Fi
      have H' : ∀ y, y ∈ ns.map V → y = 0 := hh
      exact H V M (fun q mq => H' _ (List.mem_map_of_mem mq))
  | succ K ih =>
    intro ns n s f r l x ta tb g hK G E hb hx hq hl FS FC
    have hN' := G.1.2.1
    have tk : kx_tokens u (nI i * 20 + nI K).toNatClampNeg = nI (kj_t d i K) := by rw [kj_20, kj_cl (by omega)]; exact h.2.2.2.2 _
    have t10 := kj_t10 h.1 i K
    have dl := kj_dp_le (t := kj_t d i) (n := kj_sz d i) (kj_e d i - K) K (by show K + (kj_e d i - K) = kj_e d i; omega)
    have dl1 := kj_dp_le (t := kj_t d i) (n := kj_sz d i) (kj_e d i - (K + 1)) (K + 1) (by show K + 1 + (kj_e d i - (K + 1)) = kj_e d i; omega)
    rw [nI_pred]
    refine br_f (nI_pos (by omega)) ⟨kj_in (kj_20 K) (by omega) (by decide), nm_r tk (pk_eq (kj_t d i K) 0 (fun z => ?_) (fun z => ?_) rfl rfl (by omega) (by decide))⟩
    · have D := kj_dp_0 (t := kj_t d i) (n := kj_sz d i) (k := K) hK z
      obtain ⟨nf, na, nr, en⟩ := kj_two (ns := ns) (by omega)
      subst en
      have len : (nf :: na :: nr).length = nr.length + 2 := rfl
      rw [len] at hl ⊢
      have e1 : nI (nr.length + 2) - 1 = nI (nr.length + 1) := nI_pred (nr.length + 1)
      have e2 : nI (nr.length + 2) - 2 = nI nr.length := pk_sub (a := nr.length + 2) (b := 2) (by omega)
      have x1 : x (nI (nr.length + 2) - 1).toNatClampNeg = nI nf := by rw [e1, kj_cl (by omega)]; exact hx.1
      have x2 : x (nI (nr.length + 2) - 2).toNatClampNeg = nI na := by rw [e2, kj_cl (by omega)]; exact hx.2.1
      have lf := hq nf (List.mem_cons_self ..)
      have la := hq na (List.mem_cons_of_mem _ (List.mem_cons_self ..))
      have lr : ∀ q, q ∈ nr → q < kj_N g := fun q mq => hq q (List.mem_cons_of_mem _ (List.mem_cons_of_mem _ mq))
      refine ⟨kj_in e1 (by omega) (by decide), kj_in e2 (by omega) (by decide), ?_⟩
      refine kj_xapply (u := kx_sF u n s f r l x ta tb) G (by omega) lf la x1 x2 (fun n' s' f' r' l' ta' tb' g' G' A => ?_) (fun n' s' f' r' l' ta' tb' H => ?_)
      · have eN := A.2.1
        refine br_t (nI_pos' (by omega)) (nm_r (e' := nI (nr.length + 1)) (pk_m1 (nr.length + 1)) ⟨kj_in (nI_pred nr.length) (by omega) (by decide), nm_r (e' := upd x nr.length (nI (kj_N g))) ?_ (nm_r (kj_m1s K) ?_)⟩)
        · rw [nI_pred, kj_cl (by omega), kj_ns (by omega)]
        · refine ih (kj_N g :: nr) n' s' f' r' l' (upd x nr.length (nI (kj_N g))) ta' tb' g' (by omega) G' (kj_Ex_tr E A.1) (by omega) ⟨pk_us, kj_VS_f (fun j hj => pk_un (by omega)) hx.2.2⟩ (fun q mq => ?_) (by show nr.length + 1 = _; omega) (kj_FS_app lf eN z A FS) (kj_FC_app E.1 lr z A FC)
          rcases List.mem_cons.mp mq with y | y
          · rw [y, eN]; omega
          · have := lr q y; omega
      · exact br_f (by decide) (K0 n' s' f' r' l' x ta' tb' (kj_FC_no z H FC))
    · have D := kj_dp_1 (t := kj_t d i) (n := kj_sz d i) (k := K) hK z
      have o := O K hK z
      have ll := kj_ln_lt v0 HB bi o
      have lN := Nat.lt_of_lt_of_le ll E.1
      refine kj_xleaf (u := kx_sF u n s f r l x ta tb) (g := g0) (pn := pn) (tn := tn) HB h.1.2.1 hi bi o ⟨vp_in_nI (by omega) (by decide), nm_r (e' := upd x ns.length (nI (kj_ln pn tn i (kj_t d i K)))) ?_ (nm_r (nI_1 ns.length) (nm_r (kj_m1s K) ?_))⟩
      · rw [kj_cl (by omega), kj_ns (by omega)]
      · refine ih (kj_ln pn tn i (kj_t d i K) :: ns) n s f r l (upd x ns.length (nI (kj_ln pn tn i (kj_t d i K)))) ta tb g (by omega) G E (by omega) ⟨pk_us, kj_VS_f (fun j hj => pk_un (by omega)) hx⟩ (fun q mq => ?_) (by show ns.length + 1 = _; omega) (kj_FS_leaf h.1 E HB bi o FS) (kj_FC_leaf h.1 v0 HB bi o FC)
        rcases List.mem_cons.mp mq with y | y
        · rw [y]; exact lN
        · exact hq q y
theorem kj_xfit {post : Int32 → SX → Prop} {u : SX} {d : kj_D} {g0 : kj_G} {pn tn : Nat → Nat} {B : Nat → Prop} (h : kj_X d (kx_count u) (kx_arity u) (kx_sizes u) (kx_tokens u)) (G : kj_GR (kx_nodes u) (kx_sort u) (kx_left u) (kx_right u) (kx_link u) g0) (hN : kj_N g0 + 40 ≤ 240) (HB : ∀ j, B j → kj_BT d g0 (kx_parameterNode u) (kx_typeNode u) pn tn j) {i : Nat} (hi : i < 4) (bi : B i) (hf : kx_finished u i = nI (kj_e d i)) (O : ∀ k, k < kj_e d i → kj_t d i k ≠ 0 → kj_lo d B i (kj_t d i k))
    (K1 : ∀ (n : Int32) (s f r l x ta tb : Nat → Int32) (g : kj_G), kj_GR n s f r l g → kj_Ex g0 g → kj_N g ≤ kj_N g0 + 40 → (∀ g', kj_Ex g g' → kj_Gv g' → kj_Cg g' → ∀ num, kj_PD d B pn g' num → kj_Fit d num i) →
      (∀ ch V0, kj_Md g0 V0 → kj_PV d B pn V0 ch → kj_Fit d ch i → ∃ V, kj_Md g V ∧ ∀ n, n < kj_N g0 → V n = V0 n) → post 1 (kx_sF u n s f r l x ta tb))
    (K0 : ∀ (n : Int32) (s f r l x ta tb : Nat → Int32), (∀ ch V0, kj_Md g0 V0 → kj_PV d B pn V0 ch → ¬ kj_Fit d ch i) → post 0 (kx_sF u n s f r l x ta tb)) : wpX_fieldsFit post u (nI i) := by
  have he := kj_e_20 h.1 i
  have ef : kx_finished u (nI i).toNatClampNeg - 1 = nI (kj_e d i) - 1 := by rw [kj_cl (by omega), hf]
  refine And.intro (vp_in_nI hi (by decide)) (nm_r ef ⟨kj_e d i + 1, ?_⟩)
  exact kj_xfit11 h G.1.2.2.1 hN HB hi bi O K1 K0 (kj_e d i) [] (kx_nodes u) (kx_sort u) (kx_left u) (kx_right u) (kx_link u) (kx_values u) (kx_todoA u) (kx_todoB u) g0 (Nat.le_refl _) G (kj_Ex_rf g0) (by omega) True.intro (fun q mq => absurd mq List.not_mem_nil) (kj_dp_end (kj_t d i) (kj_sz d i)).symm
    (fun g' _ _ _ num _ => ⟨[], True.intro, fun hh => hh⟩) (fun ch V0 M0 _ Fi => ⟨V0, M0, fun _ _ => rfl, Fi⟩)
end
section
/-! ===== X: readTrial, the second half of solve ===== -/
/-- cell q is a parameter of a type of the set S -/
def kj_cell (d : kj_D) (S q : Nat) : Prop := S.testBit (q / 2) = true ∧ q % 2 < kj_ar d (q / 2)
theorem kj_xread {post : Int32 → SX → Prop} {u : SX} {d : kj_D} {g : kj_G} {pn : Nat → Nat} (h : kj_X d (kx_count u) (kx_arity u) (kx_sizes u) (kx_tokens u)) (G : kj_GR (kx_nodes u) (kx_sort u) (kx_left u) (kx_right u) (kx_link u) g) {S : Nat} (hS : S < 16) (P : ∀ q, q < 8 → kj_cell d S q → kx_parameterNode u q = nI (pn q) ∧ pn q < kj_N g)
    (K1 : ∀ y : Nat → Int32, (∀ q, q < 8 → kj_cell d S q → ∃ k, k < 4 ∧ y q = nI k ∧ kj_De g (kj_co k) (pn q)) → post 1 ((kx_count u), (kx_all u), (kx_judged u), (kx_settledSet u), (kx_wellSet u), (kx_nodes u), (kx_arity u), (kx_sizes u), (kx_tokens u), (kx_finished u), (kx_fieldCount u), (kx_need u), (kx_settled u), (y), (kx_sort u), (kx_left u), (kx_right u), (kx_link u), (kx_typeNode u), (kx_parameterNode u), (kx_values u), (kx_todoA u), (kx_todoB u)))
    (K0 : ∀ (y : Nat → Int32) (q : Nat), q < 8 → kj_cell d S q → (∀ V, kj_Md g V → ∀ k, k < 4 → V (pn q) ≠ kj_co k) → post 0 ((kx_count u), (kx_all u), (kx_judged u), (kx_settledSet u), (kx_wellSet u), (kx_nodes u), (kx_arity u), (kx_sizes u), (kx_tokens u), (kx_finished u), (kx_fieldCount u), (kx_need u), (kx_settled u), (y), (kx_sort u), (kx_left u), (kx_right u), (kx_link u), (kx_typeNode u), (kx_parameterNode u), (kx_values u), (kx_todoA u), (kx_todoB u))) : wpX_readTrial post u (nI S) := by
  have key : ∀ (m q : Nat) (y : Nat → Int32), q + m = 8 → (∀ a, a < q → kj_cell d S a → ∃ k, k < 4 ∧ y a = nI k ∧ kj_De g (kj_co k) (pn a)) → wX_readTrial_2 post (nI S) (kx_count u) (kx_all u) (kx_judged u) (kx_settledSet u) (kx_wellSet u) (kx_nodes u) (m + 1) (nI q) (kx_arity u) (kx_sizes u) (kx_tokens u) (kx_finished u) (kx_fieldCount u) (kx_need u) (kx_settled u) (y) (kx_sort u) (kx_left u) (kx_right u) (kx_link u) (kx_typeNode u) (kx_parameterNode u) (kx_values u) (kx_todoA u) (kx_todoB u) := by
    intro m
    induction m with
    | zero =>
      intro q y hq H
      exact pk_le 8 q (fun _ => K1 y (fun a ha => H a (by omega))) (fun z => by omega) rfl rfl (by decide) (by omega)
    | succ m ih =>
      intro q y hq H
      have cq : (nI q).toNatClampNeg = q := kj_cl (by omega)
      have iq : vp_in (nI q) 8 := vp_in_nI (by omega) (by decide)
      have e3 : nI q >>> ((1 : Int32) &&& 31) = nI (q / 2) := pk_shrN (by omega) _ 1 (by decide)
      have e1 : nI q &&& 1 = nI (q % 2) := pk_andN (by omega) 1 (by decide)
      have ca : kx_arity u (nI (q / 2)).toNatClampNeg = nI (kj_ar d (q / 2)) := by rw [kj_cl (by omega)]; exact h.2.2.1 _
      have h2 := h.1.2.1 (q / 2)
      have skip : ¬ kj_cell d S q → wX_readTrial_2 post (nI S) (kx_count u) (kx_all u) (kx_judged u) (kx_settledSet u) (kx_wellSet u) (kx_nodes u) (m + 1) (nI (q + 1)) (kx_arity u) (kx_sizes u) (kx_tokens u) (kx_finished u) (kx_fieldCount u) (kx_need u) (kx_settled u) (y) (kx_sort u) (kx_left u) (kx_right u) (kx_link u) (kx_typeNode u) (kx_parameterNode u) (kx_values u) (kx_todoA u) (kx_todoB u) := fun nc => ih (q + 1) y (by omega) (fun a ha cl => by
        rcases Nat.lt_or_ge a q with x | x
        · exact H a x cl
        · have ea : a = q := by omega
          rw [ea] at cl
          exact absurd cl nc)
      refine pk_le 8 q (fun z => by omega) (fun _ => nm_r e3 ?_) rfl rfl (by decide) (by omega)
      refine kj_b0 S (q / 2) rfl rfl hS (by omega) (fun z => nm_r (nI_1 q) (skip (fun c => by rw [c.1] at z; exact absurd z (by decide)))) (fun z => ⟨vp_in_nI (by omega) (by decide), ?_⟩)
      refine pk_le (kj_ar d (q / 2)) (q % 2) (fun y' => nm_r (nI_1 q) (skip (fun c => by have := c.2; omega))) (fun y' => ⟨iq, ?_⟩) ca e1 (by omega) (by omega)
      have cell : kj_cell d S q := ⟨z, y'⟩
      have Pq := P q (by omega) cell
      have pq : kx_parameterNode u (nI q).toNatClampNeg = nI (pn q) := by rw [cq]; exact Pq.1
      refine kj_xnum (u := ((kx_count u), (kx_all u), (kx_judged u), (kx_settledSet u), (kx_wellSet u), (kx_nodes u), (kx_arity u), (kx_sizes u), (kx_tokens u), (kx_finished u), (kx_fieldCount u), (kx_need u), (kx_settled u), (y), (kx_sort u), (kx_left u), (kx_right u), (kx_link u), (kx_typeNode u), (kx_parameterNode u), (kx_values u), (kx_todoA u), (kx_todoB u))) G Pq.2 pq (fun k hk D => ?_) (fun Z => br_f (by decide) (K0 y q (by omega) cell Z))
      refine br_t (nI_pos' (by omega)) ⟨iq, nm_r (e' := upd y q (nI k)) (by rw [cq, kj_nb (by omega)]) (nm_r (nI_1 q) (ih (q + 1) _ (by omega) (fun a ha cl => ?_)))⟩
      rcases Nat.lt_or_ge a q with x | x
      · rw [pk_un (by omega)]; exact H a x cl
      · have ea : a = q := by omega
        subst ea
        exact ⟨k, hk, pk_us, D⟩
  exact Exists.intro 9 (key 8 0 (kx_trial u) (by decide) (fun a ha => absurd ha (Nat.not_lt_zero a)))
theorem kj_nb01 {r : Int32} (h : r = 0 ∨ r = 1) : narrow .boolean (.int r) = .int r := by
  rcases h with h | h <;> rw [h] <;> rfl
theorem kj_xsolve81 {post : Int32 → SX → Prop} {u : SX} {d : kj_D} {g1 : kj_G} {pn tn : Nat → Nat} {B : Nat → Prop} {S : Nat} {Q : (Nat → Nat) → Prop} (h : kj_X d (kx_count u) (kx_arity u) (kx_sizes u) (kx_tokens u)) (G : kj_GR (kx_nodes u) (kx_sort u) (kx_left u) (kx_right u) (kx_link u) g1) (hN : kj_N g1 ≤ 20) (hS : S < 16) (hSc : ∀ j, S.testBit j = true → j < kj_c d) (HB : ∀ j, B j → kj_BT d g1 (kx_parameterNode u) (kx_typeNode u) pn tn j) (SB : ∀ j, S.testBit j = true → B j)
    (hf : ∀ i, S.testBit i = true → kx_finished u i = nI (kj_e d i)) (O : ∀ i, S.testBit i = true → ∀ k, k < kj_e d i → kj_t d i k ≠ 0 → kj_lo d B i (kj_t d i k)) (C : ∀ ch, Q ch → ∃ V, kj_Md g1 V ∧ kj_PV d B pn V ch)
    (K1 : ∀ (y : Nat → Int32) (n : Int32) (s f r l x a b : Nat → Int32) (g : kj_G), kj_GR n s f r l g → kj_Ex g1 g → (∀ j, S.testBit j = true → ∀ num, kj_PD d B pn g num → kj_Fit d num j) → (∀ q, q < 8 → kj_cell d S q → ∃ k, k < 4 ∧ y q = nI k ∧ kj_De g (kj_co k) (pn q)) →
      (∀ ch, Q ch → (∀ j, S.testBit j = true → kj_Fit d ch j) → ∃ V, kj_Md g V ∧ kj_PV d B pn V ch) → post 1 ((kx_count u), (kx_all u), (kx_judged u), (kx_settledSet u), (kx_wellSet u), (n), (kx_arity u), (kx_sizes u), (kx_tokens u), (kx_finished u), (kx_fieldCount u), (kx_need u), (kx_settled u), (y), (s), (f), (r), (l), (kx_typeNode u), (kx_parameterNode u), (x), (a), (b)))
    (K0 : ∀ (y : Nat → Int32) (n : Int32) (s f r l x a b : Nat → Int32), (∀ ch, Q ch → ¬ ∀ j, S.testBit j = true → kj_Fit d ch j) → post 0 ((kx_count u), (kx_all u), (kx_judged u), (kx_settledSet u), (kx_wellSet u), (n), (kx_arity u), (kx_sizes u), (kx_tokens u), (kx_finished u), (kx_fieldCount u), (kx_need u), (kx_settled u), (y), (s), (f), (r), (l), (kx_typeNode u), (kx_parameterNode u), (x), (a), (b))) :
    ∀ (m i : Nat) (n : Int32) (s f r l x a b : Nat → Int32) (g : kj_G), i + m = kj_c d → kj_GR n s f r l g → kj_Ex g1 g → kj_N g ≤ kj_N g1 + 40 * i → (∀ j, j < i → S.testBit j = true → ∀ g', kj_Ex g g' → kj_Gv g' → kj_Cg g' → ∀ num, kj_PD d B pn g' num → kj_Fit d num j) →
      (∀ ch, Q ch → (∀ j, S.testBit j = true → kj_Fit d ch j) → ∃ V, kj_Md g V ∧ kj_PV d B pn V ch) → wX_solve_81 post (nI S) (m + 1) (nI i) (kx_count (kx_sF u n s f r l x a b)) (kx_all (kx_sF u n s f r l x a b)) (kx_judged (kx_sF u n s f r l x a b)) (kx_settledSet (kx_sF u n s f r l x a b)) (kx_wellSet (kx_sF u n s f r l x a b)) (kx_nodes (kx_sF u n s f r l x a b)) (kx_arity (kx_sF u n s f r l x a b)) (kx_sizes (kx_sF u n s f r l x a b)) (kx_tokens (kx_sF u n s f r l x a b)) (kx_finished (kx_sF u n s f r l x a b)) (kx_fieldCount (kx_sF u n s f r l x a b)) (kx_need (kx_sF u n s f r l x a b)) (kx_settled (kx_sF u n s f r l x a b)) (kx_trial (kx_sF u n s f r l x a b)) (kx_sort (kx_sF u n s f r l x a b)) (kx_left (kx_sF u n s f r l x a b)) (kx_right (kx_sF u n s f r l x a b)) (kx_link (kx_sF u n s f r l x a b)) (kx_typeNode (kx_sF u n s f r l x a b)) (kx_parameterNode (kx_sF u n s f r l x a b)) (kx_values (kx_sF u n s f r l x a b)) (kx_todoA (kx_sF u n s f r l x a b)) (kx_todoB (kx_sF u n s f r l x a b)) := by
  have hc := kj_c4 h
  have cc := h.2.1
  intro m
  induction m with
  | zero =>
    intro i n s f r l x a b g hi G' E hb FS FC
    refine pk_le (kj_c d) i (fun _ => ?_) (fun z => by omega) cc rfl (by omega) (by omega)
    have v := G'.1.2.2.1
    refine kj_xread (u := kx_sF u n s f r l x a b) (d := d) (g := g) (pn := pn) h G' hS (fun q hq c => ?_) (fun y H => ⟨kj_nb01 (Or.inr rfl), ?_⟩) (fun y q hq c Z => ⟨kj_nb01 (Or.inl rfl), ?_⟩)
    · have bq := HB (q / 2) (SB _ c.1)
      have e1 := bq.1 (q % 2) c.2
      have e2 := bq.2.2.2.1 (q % 2) c.2
      have eq : 2 * (q / 2) + q % 2 = q := by omega
      rw [eq] at e1 e2
      exact ⟨e1, Nat.lt_of_lt_of_le e2 E.1⟩
    · exact K1 y n s f r l x a b g G' E (fun j hj num P => FS j (by have := hSc j hj; omega) hj g (kj_Ex_rf g) v G'.2.1 num P) H FC
    · refine K0 y n s f r l x a b (fun ch qc F => ?_)
      obtain ⟨V, M, P⟩ := FC ch qc F
      have p := P (q / 2) (SB _ c.1) (q % 2) c.2
      have eq : 2 * (q / 2) + q % 2 = q := by omega
      rw [eq] at p
      exact Z V M _ p.1 p.2
  | succ m ih =>
    intro i n s f r l x a b g hi G' E hb FS FC
    refine pk_le (kj_c d) i (fun z => by omega) (fun _ => ?_) cc rfl (by omega) (by omega)
    refine kj_b0 S i rfl rfl hS (by omega) (fun z => nm_r (nI_1 i) ?_) (fun z => ?_)
    · refine ih (i + 1) n s f r l x a b g (by omega) G' E (by omega) (fun j hj sj => ?_) FC
      rcases Nat.lt_or_ge j i with y | y
      · exact FS j y sj
      · have ej : j = i := by omega
        subst ej
        rw [sj] at z; exact absurd z (by decide)
    · have lt : ∀ j, B j → ∀ p, p < kj_ar d j → pn (2 * j + p) < kj_N g := fun j bj p hp => Nat.lt_of_lt_of_le ((HB j bj).2.2.2.1 p hp) E.1
      refine kj_xfit (u := kx_sF u n s f r l x a b) (d := d) (g0 := g) (pn := pn) (tn := tn) (B := B) h G' (by omega) (fun j bj => ⟨(HB j bj).1, (HB j bj).2.1, kj_TN_x E (HB j bj).2.2⟩) (by omega) (SB i z) (hf i z) (O i z) (fun n' s' f' r' l' x' a' b' g' G2 E2 hb2 S2 C2 => ?_) (fun n' s' f' r' l' x' a' b' N2 => ?_)
      · refine br_f (by decide) (nm_r (nI_1 i) ?_)
        refine ih (i + 1) n' s' f' r' l' x' a' b' g' (by omega) G2 (kj_Ex_tr E E2) (by omega) (fun j hj sj => ?_) (fun ch qc F => ?_)
        · rcases Nat.lt_or_ge j i with y | y
          · exact fun g3 E3 => FS j y sj g3 (kj_Ex_tr E2 E3)
          · have ej : j = i := by omega
            subst ej
            exact S2
        · obtain ⟨V, M, P⟩ := FC ch qc F
          obtain ⟨V', M', e⟩ := C2 ch V M P (F i z)
          exact ⟨V', M', kj_PV_x P lt e⟩
      · refine br_t rfl (K0 (kx_trial u) n' s' f' r' l' x' a' b' (fun ch qc F => ?_))
        obtain ⟨V, M, P⟩ := FC ch qc F
        exact N2 ch V M P (F i z)
end
section
/-! ===== X: solve ===== -/
theorem kj_TN_c {d : kj_D} {g : kj_G} {pn pn' : Nat → Nat} {j t : Nat} (h2 : kj_ar d j ≤ 2) (e : ∀ q, q / 2 = j → pn' q = pn q) (T : kj_TN d g pn j t) : kj_TN d g pn' j t := by
  obtain ⟨t1, t2, t3, t4, t5⟩ := T
  have e0 : pn' (2 * j) = pn (2 * j) := e _ (by omega)
  have e1 : pn' (2 * j + 1) = pn (2 * j + 1) := e _ (by omega)
  refine ⟨t1, fun p hp => ?_, t3, fun z => ?_, fun z => ?_⟩
  · rw [e (2 * j + p) (by omega)]; exact t2 p hp
  · rw [e0]; exact t4 z
  · rw [e0, e1]; exact t5 z
/-- a choice for the set S that keeps to N0 outside -/
def kj_Ad (d : kj_D) (S : Nat) (N0 ch : Nat → Nat) : Prop := (∀ j, S.testBit j = true → ∀ p, p < kj_ar d j → ch (2 * j + p) < 4) ∧ ∀ j, ¬ S.testBit j = true → ∀ p, p < kj_ar d j → ch (2 * j + p) = N0 (2 * j + p)
def kj_pin (pin : Option (Nat × Nat)) (ch : Nat → Nat) : Prop := ∀ q k, pin = some (q, k) → ch q = k
/-- the best choice: it fits, and lies below all that fit -/
def kj_Best (d : kj_D) (S : Nat) (N0 : Nat → Nat) (pin : Option (Nat × Nat)) (tr : Nat → Nat) : Prop := (∀ j, S.testBit j = true → ∀ p, p < kj_ar d j → tr (2 * j + p) < 4) ∧ (∀ q, ¬ S.testBit (q / 2) = true → tr q = N0 q) ∧ kj_pin pin tr ∧ (∀ i, S.testBit i = true → kj_Fit d tr i) ∧
  ∀ ch, kj_Ad d S N0 ch → kj_pin pin ch → (∀ i, S.testBit i = true → kj_Fit d ch i) → ∀ j, S.testBit j = true → ∀ p, p < kj_ar d j → tr (2 * j + p) ≤ ch (2 * j + p)
def kj_B (d : kj_D) (S w : Nat) (j : Nat) : Prop := j < kj_c d ∧ (S.testBit j = true ∨ w.testBit j = true)
theorem kj_O {d : kj_D} (ok : kj_ok d) {S w i : Nat} (hi : i < kj_c d) (hn : ∀ j, (kj_nd d i).testBit j = true → S.testBit j = true ∨ w.testBit j = true) : ∀ k, k < kj_e d i → kj_t d i k ≠ 0 → kj_lo d (kj_B d S w) i (kj_t d i k) := by
  intro k hk h0
  have o := ok.2.2.2.2.2 i hi k (Nat.lt_of_lt_of_le hk (kj_e_le d i))
  refine ⟨h0, kj_t10 ok i k, fun z => ?_, fun z => ⟨o.2 z, hn _ (kj_nd_of hi hk z)⟩⟩
  have := o.1 (by omega)
  omega
/-- the trial that was read is best -/
theorem kj_solved {d : kj_D} (ok : kj_ok d) {S w : Nat} {N0 pn : Nat → Nat} {pin : Option (Nat × Nat)} {g1 g : kj_G} {y : Nat → Int32} (hSc : ∀ j, S.testBit j = true → j < kj_c d) (hpn : ∀ j, j < kj_c d → ¬ S.testBit j = true → w.testBit j = true → ∀ p, p < kj_ar d j → pn (2 * j + p) = N0 (2 * j + p) ∧ N0 (2 * j + p) < 4)
    (lt : ∀ j, kj_B d S w j → ∀ p, p < kj_ar d j → pn (2 * j + p) < kj_N g1) (hpin : ∀ q k, pin = some (q, k) → kj_cell d S q ∧ q < 8 ∧ k < 4 ∧ kj_rt g1 (pn q) = kj_rt g1 k ∧ k < kj_N g1) (v : kj_Gv g) (cg : kj_Cg g) (E : kj_Ex g1 g)
    (FS : ∀ j, S.testBit j = true → ∀ num, kj_PD d (kj_B d S w) pn g num → kj_Fit d num j) (H : ∀ q, q < 8 → kj_cell d S q → ∃ k, k < 4 ∧ y q = nI k ∧ kj_De g (kj_co k) (pn q))
    (FC : ∀ ch, kj_Ad d S N0 ch ∧ kj_pin pin ch → (∀ j, S.testBit j = true → kj_Fit d ch j) → ∃ V, kj_Md g V ∧ kj_PV d (kj_B d S w) pn V ch) :
    ∃ tr, kj_Best d S N0 pin tr ∧ ∀ q, q < 8 → kj_cell d S q → y q = nI (tr q) := by
  have h2 := ok.2.1
  have hc4 := ok.1
  have ce : ∀ j, S.testBit j = true → ∀ p, p < kj_ar d j → 2 * j + p < 8 ∧ kj_cell d S (2 * j + p) := fun j sj p hp => by
    have a := h2 j
    have b := hSc j sj
    have e : (2 * j + p) / 2 = j := by omega
    have f : (2 * j + p) % 2 = p := by omega
    refine ⟨by omega, ?_, ?_⟩
    · rw [e]; exact sj
    · rw [e, f]; exact hp
  have tc : ∀ q, q < 8 → kj_cell d S q → (if S.testBit (q / 2) = true then (y q).toNatClampNeg else N0 q) < 4 ∧ y q = nI (if S.testBit (q / 2) = true then (y q).toNatClampNeg else N0 q) ∧ kj_De g (kj_co (if S.testBit (q / 2) = true then (y q).toNatClampNeg else N0 q)) (pn q) := fun q hq c => by
    obtain ⟨k, hk, e, D⟩ := H q hq c
    rw [if_pos c.1, e, kj_cl (by omega)]
    exact ⟨hk, rfl, D⟩
  have PD : kj_PD d (kj_B d S w) pn g (fun q => if S.testBit (q / 2) = true then (y q).toNatClampNeg else N0 q) := fun j bj p hp => by
    rcases Classical.em (S.testBit j = true) with z | z
    · have q := ce j z p hp
      have t := tc _ q.1 q.2
      exact ⟨t.1, t.2.2⟩
    · have a := h2 j
      have e : (2 * j + p) / 2 = j := by omega
      have q := hpn j bj.1 z (bj.2.resolve_left z) p hp
      show (if S.testBit ((2 * j + p) / 2) = true then _ else N0 (2 * j + p)) < 4 ∧ kj_De g (kj_co (if S.testBit ((2 * j + p) / 2) = true then _ else N0 (2 * j + p))) (pn (2 * j + p))
      rw [e, if_neg z, q.1]
      exact ⟨q.2, kj_De_b v cg _ q.2⟩
  refine ⟨fun q => if S.testBit (q / 2) = true then (y q).toNatClampNeg else N0 q, ⟨fun j sj p hp => (tc _ (ce j sj p hp).1 (ce j sj p hp).2).1, fun q nq => if_neg nq, fun q k e => ?_, fun i si => FS i si _ PD, fun ch A pc F j sj p hp => ?_⟩, fun q hq c => (tc q hq c).2.1⟩
  · have hp := hpin q k e
    have t := tc q hp.2.1 hp.1
    have bq : kj_B d S w (q / 2) := ⟨hSc _ hp.1.1, Or.inl hp.1.1⟩
    have lq := lt (q / 2) bq (q % 2) hp.1.2
    rw [show 2 * (q / 2) + q % 2 = q by omega] at lq
    have D1 := kj_De_rt (E.2.2 _ _ lq hp.2.2.2.2 hp.2.2.2.1) t.2.2
    have D2 := kj_De_b v cg k hp.2.2.1
    exact kj_co_inj _ t.1 _ hp.2.2.1 (kj_De_fn D1 D2)
  · obtain ⟨V, M, P⟩ := FC ch ⟨A, pc⟩ F
    have c := ce j sj p hp
    have t := tc _ c.1 c.2
    have bj : kj_B d S w j := ⟨hSc _ sj, Or.inl sj⟩
    have q := P j bj p hp
    exact kj_nu_le v M (Nat.lt_of_lt_of_le (lt j bj p hp) E.1) t.1 q.1 t.2.2 q.2
end
section
/-! ===== X: solve, its first half and whole ===== -/
/-- the types below x stand in the graph -/
def kj_TP (d : kj_D) (S w : Nat) (N0 : Nat → Nat) (x : Nat) (g : kj_G) (pA tA : Nat → Int32) (pn tn : Nat → Nat) : Prop := (∀ j, j < x → (S.testBit j = true ∨ w.testBit j = true) → kj_BT d g pA tA pn tn j ∧ (¬ S.testBit j = true → ∀ p, p < kj_ar d j → pn (2 * j + p) = N0 (2 * j + p))) ∧
  ∀ ch : Nat → Nat, (∀ j, S.testBit j = true → ∀ p, p < kj_ar d j → ch (2 * j + p) < 4) → ∃ V, kj_Md g V ∧ ∀ j, j < x → S.testBit j = true → ∀ p, p < kj_ar d j → V (pn (2 * j + p)) = kj_co (ch (2 * j + p))
/-- one more type was built: its nodes are pj -/
theorem kj_TP_s {d : kj_D} (ok : kj_ok d) {S w : Nat} {N0 : Nat → Nat} {x : Nat} {g g' : kj_G} {pA tA pA' : Nat → Int32} {pn tn pj : Nat → Nat} {t : Nat} (T : kj_TP d S w N0 x g pA tA pn tn) (E : kj_Ex g g') (e1 : ∀ p, p < kj_ar d x → pA' (2 * x + p) = nI (pj (2 * x + p))) (e2 : ∀ q, q / 2 ≠ x → pA' q = pA q) (N : kj_TN d g' pj x t)
    (hs : ¬ S.testBit x = true → ∀ p, p < kj_ar d x → pj (2 * x + p) = N0 (2 * x + p)) (MM : ∀ V ch : Nat → Nat, kj_Md g V → (S.testBit x = true → ∀ p, p < kj_ar d x → ch (2 * x + p) < 4) → ∃ V', kj_Md g' V' ∧ (∀ n, n < kj_N g → V' n = V n) ∧ (S.testBit x = true → ∀ p, p < kj_ar d x → V' (pj (2 * x + p)) = kj_co (ch (2 * x + p)))) :
    kj_TP d S w N0 (x + 1) g' pA' (upd tA x (nI t)) (fun q => if q / 2 = x then pj q else pn q) (kj_up tn x t) := by
  have h2 := ok.2.1
  have fx : ∀ p, p < kj_ar d x → (2 * x + p) / 2 = x := fun p hp => by have := h2 x; omega
  have fj : ∀ j p, j < x → p < kj_ar d j → (2 * j + p) / 2 ≠ x := fun j p hj hp => by have := h2 j; omega
  refine ⟨fun j hj sj => ?_, fun ch hch => ?_⟩
  · rcases Nat.lt_or_ge j x with z | z
    · have q := T.1 j z sj
      have hne : j ≠ x := by omega
      refine ⟨⟨fun p hp => ?_, ?_, ?_⟩, fun ns p hp => ?_⟩
      · show pA' (2 * j + p) = nI (if (2 * j + p) / 2 = x then _ else pn (2 * j + p))
        rw [if_neg (fj j p z hp), e2 _ (fj j p z hp)]; exact q.1.1 p hp
      · rw [pk_un hne, kj_un hne]; exact q.1.2.1
      · rw [kj_un hne]
        exact kj_TN_c (h2 j) (fun a ha => if_neg (by omega)) (kj_TN_x E q.1.2.2)
      · show (if (2 * j + p) / 2 = x then _ else pn (2 * j + p)) = _
        rw [if_neg (fj j p z hp)]; exact q.2 ns p hp
    · have e : j = x := by omega
      subst e
      refine ⟨⟨fun p hp => ?_, ?_, ?_⟩, fun ns p hp => ?_⟩
      · show pA' (2 * j + p) = nI (if (2 * j + p) / 2 = j then pj (2 * j + p) else _)
        rw [if_pos (fx p hp)]; exact e1 p hp
      · rw [pk_us, kj_us]
      · rw [kj_us]
        exact kj_TN_c (h2 j) (fun a ha => if_pos ha) N
      · show (if (2 * j + p) / 2 = j then pj (2 * j + p) else _) = _
        rw [if_pos (fx p hp)]; exact hs ns p hp
  · obtain ⟨V, M, P⟩ := T.2 ch hch
    obtain ⟨V', M', e, P'⟩ := MM V ch M (hch x)
    refine ⟨V', M', fun j hj sj p hp => ?_⟩
    show V' (if (2 * j + p) / 2 = x then pj (2 * j + p) else pn (2 * j + p)) = _
    rcases Nat.lt_or_ge j x with z | z
    · rw [if_neg (fj j p z hp), e _ ((T.1 j z (Or.inl sj)).1.2.2.2.1 p hp)]
      exact P j z sj p hp
    · have ej : j = x := by omega
      subst ej
      rw [if_pos (fx p hp)]
      exact P' sj p hp
theorem kj_TP_skip {d : kj_D} {S w : Nat} {N0 : Nat → Nat} {x : Nat} {g : kj_G} {pA tA : Nat → Int32} {pn tn : Nat → Nat} (T : kj_TP d S w N0 x g pA tA pn tn) (h1 : ¬ S.testBit x = true) (h2 : ¬ w.testBit x = true) : kj_TP d S w N0 (x + 1) g pA tA pn tn := by
  refine ⟨fun j hj sj => ?_, fun ch hch => ?_⟩
  · rcases Nat.lt_or_ge j x with z | z
    · exact T.1 j z sj
    · have e : j = x := by omega
      subst e
      rcases sj with y | y
      · exact absurd y h1
      · exact absurd y h2
  · obtain ⟨V, M, P⟩ := T.2 ch hch
    refine ⟨V, M, fun j hj sj p hp => ?_⟩
    rcases Nat.lt_or_ge j x with z | z
    · exact P j z sj p hp
    · have e : j = x := by omega
      subst e
      exact absurd sj h1
theorem kj_tt {x : Bool} (h : x = false) : ¬ x = true := by rw [h]; decide
theorem kj_TP_V {d : kj_D} {S w : Nat} {N0 : Nat → Nat} {g : kj_G} {pA tA : Nat → Int32} {pn tn : Nat → Nat} (v : kj_Gv g) (hN0 : ∀ j, j < kj_c d → w.testBit j = true → ∀ p, p < kj_ar d j → N0 (2 * j + p) < 4) (T : kj_TP d S w N0 (kj_c d) g pA tA pn tn) {ch : Nat → Nat} (A : kj_Ad d S N0 ch) : ∃ V, kj_Md g V ∧ kj_PV d (kj_B d S w) pn V ch := by
  obtain ⟨V, M, P⟩ := T.2 ch A.1
  refine ⟨V, M, fun j bj p hp => ?_⟩
  rcases Classical.em (S.testBit j = true) with z | z
  · exact ⟨A.1 j z p hp, P j bj.1 z p hp⟩
  · have w' := bj.2.resolve_left z
    have e := (T.1 j bj.1 bj.2).2 z p hp
    rw [A.2 j z p hp, e]
    exact ⟨hN0 j bj.1 w' p hp, kj_Md_b v M _ (hN0 j bj.1 w' p hp)⟩
/-- the pinned cell, as the arguments tell it -/
def kj_pinA (d : kj_D) (S : Nat) (pin : Option (Nat × Nat)) (p1 p2 : Int32) : Prop := (pin = none ∧ p1 < 0) ∨ ∃ q k, pin = some (q, k) ∧ p1 = nI q ∧ p2 = nI k ∧ q < 8 ∧ k < 4 ∧ kj_cell d S q
/-- what solve is told of the state -/
def kj_SV (d : kj_D) (S w : Nat) (N0 : Nat → Nat) (wS : Int32) (st fi : Nat → Int32) : Prop := S < 16 ∧ w < 16 ∧ wS = nI w ∧ (∀ j, S.testBit j = true → j < kj_c d) ∧ (∀ j, j < kj_c d → w.testBit j = true → ∀ p, p < kj_ar d j → st (2 * j + p) = nI (N0 (2 * j + p)) ∧ N0 (2 * j + p) < 4) ∧
  (∀ i, S.testBit i = true → fi i = nI (kj_e d i)) ∧ ∀ i, S.testBit i = true → ∀ j, (kj_nd d i).testBit j = true → S.testBit j = true ∨ w.testBit j = true
abbrev kj_svK1 (post : Int32 → SX → Prop) (u : SX) (d : kj_D) (S : Nat) (N0 : Nat → Nat) (pin : Option (Nat × Nat)) : Prop := ∀ (y : Nat → Int32) (n : Int32) (s f r l t p x a b : Nat → Int32) (tr : Nat → Nat), kj_Best d S N0 pin tr → (∀ q, q < 8 → kj_cell d S q → y q = nI (tr q)) → post 1 (kx_sS u y n s f r l t p x a b)
abbrev kj_svK0 (post : Int32 → SX → Prop) (u : SX) (d : kj_D) (S : Nat) (N0 : Nat → Nat) (pin : Option (Nat × Nat)) : Prop := ∀ (y : Nat → Int32) (n : Int32) (s f r l t p x a b : Nat → Int32), (∀ ch, kj_Ad d S N0 ch → kj_pin pin ch → ¬ ∀ j, S.testBit j = true → kj_Fit d ch j) → post 0 (kx_sS u y n s f r l t p x a b)
/-- from the built types on -/
theorem kj_xsolve81' {post : Int32 → SX → Prop} {u : SX} {d : kj_D} {S w : Nat} {N0 : Nat → Nat} {pin : Option (Nat × Nat)} (h : kj_X d (kx_count u) (kx_arity u) (kx_sizes u) (kx_tokens u)) (sv : kj_SV d S w N0 (kx_wellSet u) (kx_settled u) (kx_finished u)) (K1 : kj_svK1 post u d S N0 pin) (K0 : kj_svK0 post u d S N0 pin)
    (n : Int32) (s f r l tA pA x a b : Nat → Int32) (g : kj_G) (pn tn : Nat → Nat) (G : kj_GR n s f r l g) (hN : kj_N g ≤ 20) (HB : ∀ j, kj_B d S w j → kj_BT d g pA tA pn tn j) (hp : ∀ j, j < kj_c d → ¬ S.testBit j = true → w.testBit j = true → ∀ p, p < kj_ar d j → pn (2 * j + p) = N0 (2 * j + p))
    (hpin : ∀ q k, pin = some (q, k) → kj_cell d S q ∧ q < 8 ∧ k < 4 ∧ kj_rt g (pn q) = kj_rt g k ∧ k < kj_N g) (C : ∀ ch, kj_Ad d S N0 ch ∧ kj_pin pin ch → ∃ V, kj_Md g V ∧ kj_PV d (kj_B d S w) pn V ch) :
    ∃ n81, wX_solve_81 post (nI S) n81 0 (kx_count (kx_sS u (kx_trial u) n s f r l tA pA x a b)) (kx_all (kx_sS u (kx_trial u) n s f r l tA pA x a b)) (kx_judged (kx_sS u (kx_trial u) n s f r l tA pA x a b)) (kx_settledSet (kx_sS u (kx_trial u) n s f r l tA pA x a b)) (kx_wellSet (kx_sS u (kx_trial u) n s f r l tA pA x a b)) (kx_nodes (kx_sS u (kx_trial u) n s f r l tA pA x a b)) (kx_arity (kx_sS u (kx_trial u) n s f r l tA pA x a b)) (kx_sizes (kx_sS u (kx_trial u) n s f r l tA pA x a b)) (kx_tokens (kx_sS u (kx_trial u) n s f r l tA pA x a b)) (kx_finished (kx_sS u (kx_trial u) n s f r l tA pA x a b)) (kx_fieldCount (kx_sS u (kx_trial u) n s f r l tA pA x a b)) (kx_need (kx_sS u (kx_trial u) n s f r l tA pA x a b)) (kx_settled (kx_sS u (kx_trial u) n s f r l tA pA x a b)) (kx_trial (kx_sS u (kx_trial u) n s f r l tA pA x a b)) (kx_sort (kx_sS u (kx_trial u) n s f r l tA pA x a b)) (kx_left (kx_sS u (kx_trial u) n s f r l tA pA x a b)) (kx_right (kx_sS u (kx_trial u) n s f r l tA pA x a b)) (kx_link (kx_sS u (kx_trial u) n s f r l tA pA x a b)) (kx_typeNode (kx_sS u (kx_trial u) n s f r l tA pA x a b)) (kx_parameterNode (kx_sS u (kx_trial u) n s f r l tA pA x a b)) (kx_values (kx_sS u (kx_trial u) n s f r l tA pA x a b)) (kx_todoA (kx_sS u (kx_trial u) n s f r l tA pA x a b)) (kx_todoB (kx_sS u (kx_trial u) n s f r l tA pA x a b)) := by
  refine ⟨kj_c d + 1, ?_⟩
  refine kj_xsolve81 (u := kx_sS u (kx_trial u) n s f r l tA pA x a b) (d := d) (g1 := g) (pn := pn) (tn := tn) (B := kj_B d S w) (Q := fun ch => kj_Ad d S N0 ch ∧ kj_pin pin ch) h G hN sv.1 sv.2.2.2.1 HB (fun j sj => ⟨sv.2.2.2.1 j sj, Or.inl sj⟩) sv.2.2.2.2.2.1 (fun i si => kj_O h.1 (sv.2.2.2.1 i si) (sv.2.2.2.2.2.2 i si)) C
    (fun y n' s' f' r' l' x' a' b' g' G' E FS H FC => ?_) (fun y n' s' f' r' l' x' a' b' N => ?_) (kj_c d) 0 n s f r l x a b g (Nat.zero_add _) G (kj_Ex_rf g) (by omega) (fun j hj => absurd hj (Nat.not_lt_zero j)) (fun ch q _ => C ch q)
  · obtain ⟨tr, Bt, e⟩ := kj_solved h.1 sv.2.2.2.1 (fun j hj ns wj p hp' => ⟨hp j hj ns wj p hp', (sv.2.2.2.2.1 j hj wj p hp').2⟩) (fun j bj p hp' => (HB j bj).2.2.2.1 p hp') hpin G'.1.2.2.1 G'.2.1 E FS H FC
    exact K1 y n' s' f' r' l' tA pA x' a' b' tr Bt e
  · exact K0 y n' s' f' r' l' tA pA x' a' b' (fun ch A P => N ch ⟨A, P⟩)
theorem kj_xsolve7 {post : Int32 → SX → Prop} {u : SX} {d : kj_D} {S w : Nat} {N0 : Nat → Nat} {pin : Option (Nat × Nat)} {p1 p2 : Int32} (h : kj_X d (kx_count u) (kx_arity u) (kx_sizes u) (kx_tokens u)) (sv : kj_SV d S w N0 (kx_wellSet u) (kx_settled u) (kx_finished u)) (pa : kj_pinA d S pin p1 p2) (K1 : kj_svK1 post u d S N0 pin) (K0 : kj_svK0 post u d S N0 pin) :
    ∀ (m x : Nat) (n : Int32) (s f r l tA pA : Nat → Int32) (g : kj_G) (pn tn : Nat → Nat), x + m = kj_c d → kj_GR n s f r l g → kj_N g ≤ 4 + 4 * x → kj_TP d S w N0 x g pA tA pn tn →
      wX_solve_7 post (nI S) p1 p2 (m + 1) (nI x) (kx_count (kx_sP u n s f r l tA pA)) (kx_all (kx_sP u n s f r l tA pA)) (kx_judged (kx_sP u n s f r l tA pA)) (kx_settledSet (kx_sP u n s f r l tA pA)) (kx_wellSet (kx_sP u n s f r l tA pA)) (kx_nodes (kx_sP u n s f r l tA pA)) (kx_arity (kx_sP u n s f r l tA pA)) (kx_sizes (kx_sP u n s f r l tA pA)) (kx_tokens (kx_sP u n s f r l tA pA)) (kx_finished (kx_sP u n s f r l tA pA)) (kx_fieldCount (kx_sP u n s f r l tA pA)) (kx_need (kx_sP u n s f r l tA pA)) (kx_settled (kx_sP u n s f r l tA pA)) (kx_trial (kx_sP u n s f r l tA pA)) (kx_sort (kx_sP u n s f r l tA pA)) (kx_left (kx_sP u n s f r l tA pA)) (kx_right (kx_sP u n s f r l tA pA)) (kx_link (kx_sP u n s f r l tA pA)) (kx_typeNode (kx_sP u n s f r l tA pA)) (kx_parameterNode (kx_sP u n s f r l tA pA)) (kx_values (kx_sP u n s f r l tA pA)) (kx_todoA (kx_sP u n s f r l tA pA)) (kx_todoB (kx_sP u n s f r l tA pA)) := by
  have hc := kj_c4 h
  have cc := h.2.1
  intro m
  induction m with
  | zero =>
    intro x n s f r l tA pA g pn tn hx G hb T
    have ex : x = kj_c d := by omega
    subst ex
    have v := G.1.2.2.1
    have b4 := v.1.1
    have hN0 : ∀ j, j < kj_c d → w.testBit j = true → ∀ p, p < kj_ar d j → N0 (2 * j + p) < 4 := fun j hj wj p hp => (sv.2.2.2.2.1 j hj wj p hp).2
    have C0 := fun ch (A : kj_Ad d S N0 ch) => kj_TP_V v hN0 T A
    refine pk_le (kj_c d) (kj_c d) (fun _ => ?_) (fun z => by omega) cc rfl (by omega) (by omega)
    rcases pa with ⟨e, neg⟩ | ⟨q, k, e, e1, e2, hq, hk, cl⟩
    · refine br_t neg ?_
      exact kj_xsolve81' h sv K1 K0 n s f r l tA pA (kx_values u) (kx_todoA u) (kx_todoB u) g pn tn G (by omega) (fun j bj => (T.1 j bj.1 bj.2).1) (fun j hj ns wj => (T.1 j hj (Or.inr wj)).2 ns) (fun q k e' => by rw [e] at e'; exact absurd e' (by intro z; cases z)) (fun ch A => C0 ch A.1)
    · have sq := sv.2.2.2.1 _ cl.1
      have BQ := (T.1 (q / 2) sq (Or.inl cl.1)).1
      have eq : 2 * (q / 2) + q % 2 = q := by omega
      have pq := BQ.1 (q % 2) cl.2
      have lq := BQ.2.2.2.1 (q % 2) cl.2
      rw [eq] at pq lq
      have p1' : pA p1.toNatClampNeg = nI (pn q) := by rw [e1, kj_cl (by omega)]; exact pq
      refine br_f (by rw [e1]; exact nI_pos (by omega)) ⟨kj_in e1 hq (by decide), ?_⟩
      refine kj_xunify (u := kx_sP u n s f r l tA pA) G lq (by omega : k < kj_N g) p1' e2 (fun l' ta tb g' G' J => br_f (by decide) ?_) (fun l' ta tb N => br_t rfl ?_)
      · have E := J.1
        refine kj_xsolve81' h sv K1 K0 n s f r l' tA pA (kx_values u) ta tb g' pn tn G' (by have := J.2.1; omega) (fun j bj => ?_) (fun j hj ns wj => (T.1 j hj (Or.inr wj)).2 ns) (fun q' k' e' => ?_) (fun ch A => ?_)
        · have B0 := (T.1 j bj.1 bj.2).1
          exact ⟨B0.1, B0.2.1, kj_TN_x E B0.2.2⟩
        · rw [e] at e'
          injection e' with e'
          injection e' with x1 x2
          subst x1 x2
          exact ⟨cl, hq, hk, J.2.2.1, by have := J.2.1; omega⟩
        · obtain ⟨V, M, P⟩ := C0 ch A.1
          have pv := P (q / 2) ⟨sq, Or.inl cl.1⟩ (q % 2) cl.2
          rw [eq] at pv
          have vk := kj_Md_b v M k hk
          exact ⟨V, J.2.2.2 V M (by rw [pv.2, A.2 q k e, vk]), P⟩
      · refine K0 (kx_trial u) n s f r l' tA pA (kx_values u) ta tb (fun ch A P _ => ?_)
        obtain ⟨V, M, PP⟩ := C0 ch A
        have pv := PP (q / 2) ⟨sq, Or.inl cl.1⟩ (q % 2) cl.2
        rw [eq] at pv
        have vk := kj_Md_b v M k hk
        exact N V M (by rw [pv.2, P q k e, vk])
  | succ m ih =>
    intro x n s f r l tA pA g pn tn hx G hb T
    refine pk_le (kj_c d) x (fun z => by omega) (fun _ => ?_) cc rfl (by omega) (by omega)
    refine kj_b0 S x rfl rfl sv.1 (by omega) (fun z => ?_) (fun z => ?_)
    · refine kj_b0 w x sv.2.2.1 rfl sv.2.1 (by omega) (fun y => nm_r (nI_1 x) ?_) (fun y => ?_)
      · exact ih (x + 1) n s f r l tA pA g pn tn (by omega) G (by omega) (kj_TP_skip T (kj_tt z) (kj_tt y))
      · refine kj_xset (u := kx_sP u n s f r l tA pA) (d := d) (g := g) h G (by omega) (by omega) (num := N0) (sv.2.2.2.2.1 x (by omega) y) (fun n' s' f' r' l' pA' g' t G' E hb' e1 e2 N MM => nm_r (nI_1 x) ?_)
        refine ih (x + 1) n' s' f' r' l' (upd tA x (nI t)) pA' g' _ _ (by omega) G' (by omega) (kj_TP_s h.1 T E e1 e2 N (fun _ _ _ => rfl) (fun V ch M _ => ?_))
        obtain ⟨V', M', e⟩ := MM V M
        exact ⟨V', M', e, fun sx => absurd sx (kj_tt z)⟩
    · refine kj_xunk (u := kx_sP u n s f r l tA pA) (d := d) (g := g) h G (by omega) (by omega) (fun n' s' f' r' l' pA' g' pj t G' E hb' e1 e2 N MM => nm_r (nI_1 x) ?_)
      refine ih (x + 1) n' s' f' r' l' (upd tA x (nI t)) pA' g' _ _ (by omega) G' (by omega) (kj_TP_s h.1 T E e1 e2 N (fun ns => absurd z ns) (fun V ch M hch => ?_))
      obtain ⟨V', M', e, P⟩ := MM V ch M (hch z)
      exact ⟨V', M', e, fun _ => P⟩
theorem kj_xsolve {post : Int32 → SX → Prop} {u : SX} {d : kj_D} {S w : Nat} {N0 : Nat → Nat} {pin : Option (Nat × Nat)} {p1 p2 : Int32} (h : kj_X d (kx_count u) (kx_arity u) (kx_sizes u) (kx_tokens u)) (sv : kj_SV d S w N0 (kx_wellSet u) (kx_settled u) (kx_finished u)) (pa : kj_pinA d S pin p1 p2) (K1 : kj_svK1 post u d S N0 pin) (K0 : kj_svK0 post u d S N0 pin) : wpX_solve post u (nI S) p1 p2 := by
  unfold wpX_solve
  refine kj_xstart (u := u) (fun so le ri li G => ⟨kj_c d + 1, ?_⟩)
  refine kj_xsolve7 h sv pa K1 K0 (kj_c d) 0 (nI 4) so le ri li (kx_typeNode u) (kx_parameterNode u) kj_g0 (fun _ => 0) (fun _ => 0) (Nat.zero_add _) G (by decide) ⟨fun j hj => absurd hj (Nat.not_lt_zero j), fun ch _ => ⟨kj_co, ?_, fun j hj => absurd hj (Nat.not_lt_zero j)⟩⟩
  have D : ∀ n, n < 4 → kj_co n ≤ 20 ∧ (kj_so kj_g0 n = 1 → kj_co n = 0) ∧ (kj_so kj_g0 n = 2 → kj_co n ≠ 0 ∧ kj_L (kj_co n) = kj_co (kj_le kj_g0 n) ∧ kj_R (kj_co n) = kj_co (kj_ri kj_g0 n)) ∧ kj_co n = kj_co (kj_rt kj_g0 n) := by decide
  exact D
end
section
/-! ===== what is settled, for each type ===== -/
/-- a choice for the group of i that keeps to N0 at what i needs outside -/
def kj_Ai (d : kj_D) (i : Nat) (N0 ch : Nat → Nat) : Prop := (∀ j, (kj_g d i).testBit j = true → ∀ p, p < kj_ar d j → ch (2 * j + p) < 4) ∧ ∀ j, (kj_nd d i).testBit j = true → ¬ (kj_g d i).testBit j = true → ∀ p, p < kj_ar d j → ch (2 * j + p) = N0 (2 * j + p)
def kj_Fs (d : kj_D) (i : Nat) (ch : Nat → Nat) : Prop := ∀ j, (kj_g d i).testBit j = true → kj_Fit d ch j
def kj_SpT (d : kj_D) (w : Nat) (N0 : Nat → Nat) (i : Nat) : Prop := (∀ j, (kj_nd d i).testBit j = true → (kj_g d i).testBit j = true ∨ w.testBit j = true) ∧ (∀ j, (kj_g d i).testBit j = true → ∀ p, p < kj_ar d j → N0 (2 * j + p) < 4) ∧ kj_Fs d i N0 ∧
  ∀ ch, kj_Ai d i N0 ch → kj_Fs d i ch → ∀ j, (kj_g d i).testBit j = true → ∀ p, p < kj_ar d j → N0 (2 * j + p) ≤ ch (2 * j + p)
def kj_SpF (d : kj_D) (w : Nat) (N0 : Nat → Nat) (i : Nat) : Prop := (∃ j, (kj_nd d i).testBit j = true ∧ ¬ (kj_g d i).testBit j = true ∧ ¬ w.testBit j = true) ∨ ∀ ch, kj_Ai d i N0 ch → ¬ kj_Fs d i ch
def kj_Sp (d : kj_D) (w : Nat) (N0 : Nat → Nat) (i : Nat) : Prop := (w.testBit i = true → kj_SpT d w N0 i) ∧ (¬ w.testBit i = true → kj_SpF d w N0 i)
theorem kj_bq {j p a : Nat} (ha : a ≤ 2) (hp : p < a) : (2 * j + p) / 2 = j := by omega
/-- a choice of one form made one of the other -/
theorem kj_Ai_Ad {d : kj_D} (ok : kj_ok d) {i : Nat} {N0 ch : Nat → Nat} (hi : i < kj_c d) (A : kj_Ai d i N0 ch) : kj_Ad d (kj_g d i) N0 (fun q => if (kj_g d i).testBit (q / 2) = true then ch q else N0 q) ∧ (kj_Fs d i ch → kj_Fs d i (fun q => if (kj_g d i).testBit (q / 2) = true then ch q else N0 q)) := by
  have h2 := ok.2.1
  refine ⟨⟨fun j sj p hp => ?_, fun j sj p hp => ?_⟩, fun F j sj => ?_⟩
  · show (if (kj_g d i).testBit ((2 * j + p) / 2) = true then ch (2 * j + p) else _) < 4
    rw [kj_bq (h2 j) hp, if_pos sj]; exact A.1 j sj p hp
  · show (if (kj_g d i).testBit ((2 * j + p) / 2) = true then _ else N0 (2 * j + p)) = _
    rw [kj_bq (h2 j) hp, if_neg sj]
  · have inS : ∀ a, (kj_g d i).testBit a = true → kj_ag d ch (fun q => if (kj_g d i).testBit (q / 2) = true then ch q else N0 q) a := fun a sa p hp => by
      show _ = (if (kj_g d i).testBit ((2 * a + p) / 2) = true then ch (2 * a + p) else _)
      rw [kj_bq (h2 a) hp, if_pos sa]
    refine kj_Fit_cg ok (kj_g_c ok hi sj) (inS j sj) (fun a na => ?_) (F j sj)
    rcases Classical.em ((kj_g d i).testBit a = true) with z | z
    · exact inS a z
    · intro p hp
      show _ = (if (kj_g d i).testBit ((2 * a + p) / 2) = true then _ else N0 (2 * a + p))
      rw [kj_bq (h2 a) hp, if_neg z]
      exact A.2 a (kj_g_nd ok (kj_g_sym ok sj) na) z p hp
theorem kj_Sp_cg {d : kj_D} (ok : kj_ok d) {w w' : Nat} {N0 N1 : Nat → Nat} {i : Nat} (hi : i < kj_c d) (ew : ∀ j, ((kj_nd d i).testBit j = true ∨ (kj_g d i).testBit j = true) → w'.testBit j = w.testBit j) (eN : ∀ j, ((kj_nd d i).testBit j = true ∨ (kj_g d i).testBit j = true) → kj_ag d N0 N1 j) (H : kj_Sp d w N0 i) : kj_Sp d w' N1 i := by
  have AA : ∀ ch, kj_Ai d i N1 ch → kj_Ai d i N0 ch := fun ch A => ⟨A.1, fun j nj gj p hp => (A.2 j nj gj p hp).trans (eN j (Or.inl nj) p hp).symm⟩
  have ei := ew i (Or.inr (kj_g_self ok i))
  refine ⟨fun wi => ?_, fun wi => ?_⟩
  · rw [ei] at wi
    have T := H.1 wi
    refine ⟨fun j nj => ?_, fun j gj p hp => ?_, fun j gj => ?_, fun ch A F j gj p hp => ?_⟩
    · rw [ew j (Or.inl nj)]; exact T.1 j nj
    · rw [← eN j (Or.inr gj) p hp]; exact T.2.1 j gj p hp
    · exact kj_Fit_cg ok (kj_g_c ok hi gj) (eN j (Or.inr gj)) (fun a na => eN a (Or.inl (kj_g_nd ok (kj_g_sym ok gj) na))) (T.2.2.1 j gj)
    · rw [← eN j (Or.inr gj) p hp]; exact T.2.2.2 ch (AA ch A) F j gj p hp
  · rw [ei] at wi
    rcases H.2 wi with ⟨j, nj, gj, wj⟩ | N
    · exact Or.inl ⟨j, nj, gj, by rw [ew j (Or.inl nj)]; exact wj⟩
    · exact Or.inr (fun ch A => N ch (AA ch A))
theorem kj_tbor (a b j : Nat) : (a ||| b).testBit j = true ↔ a.testBit j = true ∨ b.testBit j = true := by
  rw [Nat.testBit_or, Bool.or_eq_true]
theorem kj_tborF {a b j : Nat} (h : ¬ b.testBit j = true) : (a ||| b).testBit j = a.testBit j := by
  rw [Nat.testBit_or]
  cases e : b.testBit j
  · rw [Bool.or_false]
  · exact absurd e h
def kj_pc (s : Nat) : Nat := kj_cn (fun j => s.testBit j) 4
theorem kj_pc_lt {s S i : Nat} (hi : i < 4) (h1 : s.testBit i = false) (h2 : S.testBit i = true) : kj_pc s < kj_pc (s ||| S) :=
  kj_cn_lt (P := fun j => s.testBit j) (Q := fun j => (s ||| S).testBit j) h1 ((kj_tbor s S i).mpr (Or.inr h2)) (fun k _ hk => (kj_tbor s S k).mpr (Or.inl hk)) hi
theorem kj_pc_4 {s i : Nat} (hi : i < 4) (h : 4 ≤ kj_pc s) : s.testBit i = true := by
  cases e : s.testBit i
  · have a := kj_cn_lt (P := fun j => s.testBit j) (Q := fun _ => true) (a := i) e rfl (N := 4) (fun _ _ _ => rfl) hi
    have b := kj_cn_le (fun _ => true) 4
    have c : 4 ≤ kj_cn (fun j => s.testBit j) 4 := h
    omega
  · rfl
/-- s are settled: w of them well, at the numbers N0 -/
def kj_Se (d : kj_D) (s w : Nat) (N0 : Nat → Nat) : Prop := s < 16 ∧ w < 16 ∧ (∀ j, w.testBit j = true → s.testBit j = true) ∧ (∀ j, s.testBit j = true → j < kj_c d) ∧ (∀ i j, s.testBit i = true → ((kj_nd d i).testBit j = true ∨ (kj_g d i).testBit j = true) → s.testBit j = true) ∧ ∀ i, s.testBit i = true → kj_Sp d w N0 i
theorem kj_Se_0 (d : kj_D) (N0 : Nat → Nat) : kj_Se d 0 0 N0 := by
  have z : ∀ j, ¬ (0 : Nat).testBit j = true := fun j => by rw [kj_z1]; decide
  exact ⟨by decide, by decide, fun j h => absurd h (z j), fun j h => absurd h (z j), fun i j h => absurd h (z i), fun i h => absurd h (z i)⟩
/-- all are settled when no group is ready -/
theorem kj_Se_all {d : kj_D} (ok : kj_ok d) {s : Nat} (H : ∀ i, i < kj_c d → s.testBit i = false → ¬ kj_rdy d s i) : ∀ i, i < kj_c d → s.testBit i = true := by
  have key : ∀ n i, i < kj_c d → kj_ms d i < n → s.testBit i = true := by
    intro n
    induction n with
    | zero => intro i _ h; omega
    | succ n ih =>
      intro i hi hm
      cases e : s.testBit i
      · refine absurd ?_ (H i hi e)
        intro j hj nj
        rcases Classical.em ((kj_g d i).testBit j = true) with z | z
        · exact Or.inl z
        · have := kj_ms_lt ok (Nat.lt_of_lt_of_le hi ok.1) nj z
          exact Or.inr (ih j (kj_nd_lt4 ok nj) (by omega))
      · rfl
  exact fun i hi => key _ i hi (Nat.lt_succ_self _)
theorem kj_Se_dj {d : kj_D} (ok : kj_ok d) {s w : Nat} {N0 : Nat → Nat} (H : kj_Se d s w N0) {i j : Nat} (hi : s.testBit i = false) (gj : (kj_g d i).testBit j = true) : ¬ s.testBit j = true := fun sj => by
  have := H.2.2.2.2.1 j i sj (Or.inr (kj_g_sym ok gj))
  rw [this] at hi; exact absurd hi (by decide)
theorem kj_Se_cl {d : kj_D} (ok : kj_ok d) {s w : Nat} {N0 : Nat → Nat} (H : kj_Se d s w N0) {i : Nat} (hi : i < kj_c d) (r : kj_rdy d s i) : ∀ a b, (s ||| kj_g d i).testBit a = true → ((kj_nd d a).testBit b = true ∨ (kj_g d a).testBit b = true) → (s ||| kj_g d i).testBit b = true := by
  intro a b ha hb
  rw [kj_tbor] at ha ⊢
  rcases ha with ha | ha
  · exact Or.inl (H.2.2.2.2.1 a b ha hb)
  · rcases hb with hb | hb
    · have nb := kj_g_nd ok (kj_g_sym ok ha) hb
      exact (r b (Nat.lt_of_lt_of_le (kj_nd_lt4 ok nb) ok.1) nb).symm
    · exact Or.inr (kj_g_tr ok ha hb)
theorem kj_Se_T {d : kj_D} (ok : kj_ok d) {s w : Nat} {N0 tr : Nat → Nat} (H : kj_Se d s w N0) {i : Nat} (hi : i < kj_c d) (si : s.testBit i = false) (r : kj_rdy d s i) (sn : ∀ j, (kj_nd d i).testBit j = true → (kj_g d i).testBit j = true ∨ w.testBit j = true) (Bt : kj_Best d (kj_g d i) N0 none tr) :
    kj_Se d (s ||| kj_g d i) (w ||| kj_g d i) tr := by
  have hi4 : i < 4 := Nat.lt_of_lt_of_le hi ok.1
  have h2 := ok.2.1
  refine ⟨kj_or16 H.1 (kj_g_lt d hi4), kj_or16 H.2.1 (kj_g_lt d hi4), fun j hj => ?_, fun j hj => ?_, kj_Se_cl ok H hi r, fun a ha => ?_⟩
  · rw [kj_tbor] at hj ⊢
    exact hj.elim (fun x => Or.inl (H.2.2.1 j x)) Or.inr
  · rw [kj_tbor] at hj
    exact hj.elim (H.2.2.2.1 j) (kj_g_c ok hi)
  · rw [kj_tbor] at ha
    rcases ha with ha | ha
    · have nS : ∀ j, ((kj_nd d a).testBit j = true ∨ (kj_g d a).testBit j = true) → ¬ (kj_g d i).testBit j = true := fun j hj gj => kj_Se_dj ok H si gj (H.2.2.2.2.1 a j ha hj)
      refine kj_Sp_cg ok (H.2.2.2.1 a ha) (fun j hj => kj_tborF (nS j hj)) (fun j hj p hp => ?_) (H.2.2.2.2.2 a ha)
      refine (Bt.2.1 (2 * j + p) ?_).symm
      rw [kj_bq (h2 j) hp]; exact nS j hj
    · have eg := kj_g_eq ok ha
      refine ⟨fun _ => ?_, fun z => absurd ((kj_tbor w (kj_g d i) a).mpr (Or.inr ha)) z⟩
      unfold kj_SpT kj_Fs kj_Ai
      rw [eg]
      refine ⟨fun j nj => ?_, Bt.1, Bt.2.2.2.1, fun ch A F j gj p hp => ?_⟩
      · rcases sn j (kj_g_nd ok (kj_g_sym ok ha) nj) with z | z
        · exact Or.inl z
        · exact Or.inr ((kj_tbor _ _ _).mpr (Or.inl z))
      · have A' : kj_Ai d i N0 ch := ⟨A.1, fun b nb gb p hp => (A.2 b (kj_g_nd ok ha nb) gb p hp).trans (Bt.2.1 (2 * b + p) (by rw [kj_bq (h2 b) hp]; exact gb))⟩
        have Q := kj_Ai_Ad ok hi A'
        have L := Bt.2.2.2.2 _ Q.1 (fun q k e => by cases e) (Q.2 F) j gj p hp
        have e : (if (kj_g d i).testBit ((2 * j + p) / 2) = true then ch (2 * j + p) else N0 (2 * j + p)) = ch (2 * j + p) := by rw [kj_bq (h2 j) hp, if_pos gj]
        have L' : tr (2 * j + p) ≤ (if (kj_g d i).testBit ((2 * j + p) / 2) = true then ch (2 * j + p) else N0 (2 * j + p)) := L
        rw [e] at L'
        exact L'
theorem kj_Se_F {d : kj_D} (ok : kj_ok d) {s w : Nat} {N0 : Nat → Nat} (H : kj_Se d s w N0) {i : Nat} (hi : i < kj_c d) (si : s.testBit i = false) (r : kj_rdy d s i)
    (no : (∃ a j, (kj_g d i).testBit a = true ∧ (kj_nd d a).testBit j = true ∧ ¬ (kj_g d i).testBit j = true ∧ ¬ w.testBit j = true) ∨ ∀ ch, kj_Ad d (kj_g d i) N0 ch → kj_pin none ch → ¬ ∀ j, (kj_g d i).testBit j = true → kj_Fit d ch j) :
    kj_Se d (s ||| kj_g d i) w N0 := by
  have hi4 : i < 4 := Nat.lt_of_lt_of_le hi ok.1
  refine ⟨kj_or16 H.1 (kj_g_lt d hi4), H.2.1, fun j hj => ?_, fun j hj => ?_, kj_Se_cl ok H hi r, fun a ha => ?_⟩
  · rw [kj_tbor]; exact Or.inl (H.2.2.1 j hj)
  · rw [kj_tbor] at hj
    exact hj.elim (H.2.2.2.1 j) (kj_g_c ok hi)
  · rw [kj_tbor] at ha
    rcases ha with ha | ha
    · exact H.2.2.2.2.2 a ha
    · have eg := kj_g_eq ok ha
      have nw : ¬ w.testBit a = true := fun z => kj_Se_dj ok H si ha (H.2.2.1 a z)
      refine ⟨fun z => absurd z nw, fun _ => ?_⟩
      unfold kj_SpF kj_Fs kj_Ai
      rw [eg]
      rcases no with ⟨b, j, gb, nj, gj, wj⟩ | N
      · exact Or.inl ⟨j, kj_g_nd ok ha (kj_g_nd ok (kj_g_sym ok gb) nj), gj, wj⟩
      · refine Or.inr (fun ch A F => ?_)
        have A' : kj_Ai d i N0 ch := ⟨A.1, fun b nb gb p hp => A.2 b (kj_g_nd ok ha nb) gb p hp⟩
        have Q := kj_Ai_Ad ok hi A'
        exact N _ Q.1 (fun q k e => by cases e) (Q.2 F)
end
section
/-! ===== X: settle, judge ===== -/
abbrev kx_sW (u : SX) (ss ws : Int32) (st y : Nat → Int32) (n : Int32) (s f r l t p x a b : Nat → Int32) : SX := ((kx_count u), (kx_all u), (kx_judged u), (ss), (ws), (n), (kx_arity u), (kx_sizes u), (kx_tokens u), (kx_finished u), (kx_fieldCount u), (kx_need u), (st), (y), (s), (f), (r), (l), (t), (p), (x), (a), (b))
theorem kj_xsettle40 {post : SX → Prop} {u : SX} {S s : Nat} (hS : S < 16) (es : kx_settledSet u = nI s)
    (K : ∀ st : Nat → Int32, (∀ q, q < 8 → S.testBit (q / 2) = true → st q = vp_nar .byte (kx_trial u q)) → (∀ q, ¬ S.testBit (q / 2) = true → st q = kx_settled u q) → post ((kx_count u), (kx_all u), (kx_judged u), (nI (s ||| S)), (kx_wellSet u), (kx_nodes u), (kx_arity u), (kx_sizes u), (kx_tokens u), (kx_finished u), (kx_fieldCount u), (kx_need u), (st), (kx_trial u), (kx_sort u), (kx_left u), (kx_right u), (kx_link u), (kx_typeNode u), (kx_parameterNode u), (kx_values u), (kx_todoA u), (kx_todoB u))) :
    ∀ (m x : Nat) (st : Nat → Int32), x + m = 4 → (∀ q, q < 2 * x → S.testBit (q / 2) = true → st q = vp_nar .byte (kx_trial u q)) → (∀ q, ¬ S.testBit (q / 2) = true → st q = kx_settled u q) → wX_settle_40 post (nI S) (kx_count u) (kx_all u) (kx_judged u) (kx_settledSet u) (kx_wellSet u) (kx_nodes u) (m + 1) (nI x) (kx_arity u) (kx_sizes u) (kx_tokens u) (kx_finished u) (kx_fieldCount u) (kx_need u) (st) (kx_trial u) (kx_sort u) (kx_left u) (kx_right u) (kx_link u) (kx_typeNode u) (kx_parameterNode u) (kx_values u) (kx_todoA u) (kx_todoB u) := by
  intro m
  induction m with
  | zero =>
    intro x st hx H1 H2
    refine pk_le 4 x (fun _ => nm_r (e' := nI (s ||| S)) ?_ (K st (fun q hq => H1 q (by omega)) H2)) (fun z => by omega) rfl rfl (by decide) (by omega)
    show kx_settledSet u ||| nI S = _
    rw [es, kj_or]
  | succ m ih =>
    intro x st hx H1 H2
    have e0 : nI x * 2 = nI (2 * x) := kj_2z x
    have e1 : nI x * 2 + 1 = nI (2 * x + 1) := kj_2 1
    have c0 : (nI x * 2).toNatClampNeg = 2 * x := by rw [e0]; exact kj_cl (by omega)
    have c1 : (nI x * 2 + 1).toNatClampNeg = 2 * x + 1 := by rw [e1]; exact kj_cl (by omega)
    have i0 : vp_in (nI x * 2) 8 := kj_in e0 (by omega) (by decide)
    have i1 : vp_in (nI x * 2 + 1) 8 := kj_in e1 (by omega) (by decide)
    refine pk_le 4 x (fun z => by omega) (fun _ => ?_) rfl rfl (by decide) (by omega)
    refine kj_b0 S x rfl rfl hS (by omega) (fun z => nm_r (nI_1 x) (ih (x + 1) st (by omega) (fun q hq sq => ?_) H2)) (fun z => ?_)
    · rcases Nat.lt_or_ge q (2 * x) with y | y
      · exact H1 q y sq
      · rw [show q / 2 = x by omega, z] at sq; exact absurd sq (by decide)
    · refine ⟨i0, i0, nm_r (e' := upd st (2 * x) (vp_nar .byte (kx_trial u (2 * x)))) (by rw [c0]) ⟨i1, i1, nm_r (e' := upd (upd st (2 * x) (vp_nar .byte (kx_trial u (2 * x)))) (2 * x + 1) (vp_nar .byte (kx_trial u (2 * x + 1)))) (by rw [c1]) (nm_r (nI_1 x) ?_)⟩⟩
      refine ih (x + 1) _ (by omega) (fun q hq sq => ?_) (fun q nq => ?_)
      · rcases Nat.decEq q (2 * x + 1) with y | y
        · rw [pk_un y]
          rcases Nat.decEq q (2 * x) with y' | y'
          · rw [pk_un y']; exact H1 q (by omega) sq
          · rw [y', pk_us]
        · rw [y, pk_us]
      · have n0 : q ≠ 2 * x := fun e => nq (by rw [e, show 2 * x / 2 = x by omega]; exact z)
        have n1 : q ≠ 2 * x + 1 := fun e => nq (by rw [e, show (2 * x + 1) / 2 = x by omega]; exact z)
        rw [pk_un n1, pk_un n0]; exact H2 q nq
theorem kj_xsettle23F {post : SX → Prop} {u : SX} {S s : Nat} (es : kx_settledSet u = nI s) (K : post ((kx_count u), (kx_all u), (kx_judged u), (nI (s ||| S)), (kx_wellSet u), (kx_nodes u), (kx_arity u), (kx_sizes u), (kx_tokens u), (kx_finished u), (kx_fieldCount u), (kx_need u), (kx_settled u), (kx_trial u), (kx_sort u), (kx_left u), (kx_right u), (kx_link u), (kx_typeNode u), (kx_parameterNode u), (kx_values u), (kx_todoA u), (kx_todoB u))) : wX_settle_22 post (nI S) (kx_count u) (kx_all u) (kx_judged u) (kx_settledSet u) (kx_wellSet u) (kx_nodes u) (kx_arity u) (kx_sizes u) (kx_tokens u) (kx_finished u) (kx_fieldCount u) (kx_need u) (kx_settled u) (kx_trial u) (kx_sort u) (kx_left u) (kx_right u) (kx_link u) (kx_typeNode u) (kx_parameterNode u) (kx_values u) (kx_todoA u) (kx_todoB u) := by
  unfold wX_settle_22
  refine br_t rfl (nm_r (e' := nI (s ||| S)) ?_ K)
  rw [es, kj_or]
theorem kj_xsettle23T {post : SX → Prop} {u : SX} {S s w : Nat} (hS : S < 16) (es : kx_settledSet u = nI s) (ew : kx_wellSet u = nI w)
    (K : ∀ st : Nat → Int32, (∀ q, q < 8 → S.testBit (q / 2) = true → st q = vp_nar .byte (kx_trial u q)) → (∀ q, ¬ S.testBit (q / 2) = true → st q = kx_settled u q) → post ((kx_count u), (kx_all u), (kx_judged u), (nI (s ||| S)), (nI (w ||| S)), (kx_nodes u), (kx_arity u), (kx_sizes u), (kx_tokens u), (kx_finished u), (kx_fieldCount u), (kx_need u), (st), (kx_trial u), (kx_sort u), (kx_left u), (kx_right u), (kx_link u), (kx_typeNode u), (kx_parameterNode u), (kx_values u), (kx_todoA u), (kx_todoB u))) : wX_settle_23 post (nI S) 1 (kx_count u) (kx_all u) (kx_judged u) (kx_settledSet u) (kx_wellSet u) (kx_nodes u) (kx_arity u) (kx_sizes u) (kx_tokens u) (kx_finished u) (kx_fieldCount u) (kx_need u) (kx_settled u) (kx_trial u) (kx_sort u) (kx_left u) (kx_right u) (kx_link u) (kx_typeNode u) (kx_parameterNode u) (kx_values u) (kx_todoA u) (kx_todoB u) := by
  refine br_f (by decide) (nm_r (e' := nI (w ||| S)) ?_ ⟨5, ?_⟩)
  · rw [ew, kj_or]
  · exact kj_xsettle40 (u := ((kx_count u), (kx_all u), (kx_judged u), (kx_settledSet u), (nI (w ||| S)), (kx_nodes u), (kx_arity u), (kx_sizes u), (kx_tokens u), (kx_finished u), (kx_fieldCount u), (kx_need u), (kx_settled u), (kx_trial u), (kx_sort u), (kx_left u), (kx_right u), (kx_link u), (kx_typeNode u), (kx_parameterNode u), (kx_values u), (kx_todoA u), (kx_todoB u))) hS es K 4 0 (kx_settled u) (by decide) (fun q hq => absurd hq (Nat.not_lt_zero q)) (fun q _ => rfl)
/-- the numbers are held for the well ones -/
def kj_Nm (d : kj_D) (w : Nat) (N0 : Nat → Nat) (st : Nat → Int32) : Prop := ∀ j, j < kj_c d → w.testBit j = true → ∀ p, p < kj_ar d j → st (2 * j + p) = nI (N0 (2 * j + p)) ∧ N0 (2 * j + p) < 4
theorem kj_xsettle {post : SX → Prop} {u : SX} {d : kj_D} {s w : Nat} {N0 : Nat → Nat} (h : kj_X d (kx_count u) (kx_arity u) (kx_sizes u) (kx_tokens u)) (hn : kj_XN d (kx_need u)) (hf : ∀ i, i < kj_c d → kx_finished u i = nI (kj_e d i)) (es : kx_settledSet u = nI s) (ew : kx_wellSet u = nI w) (hN : kj_Nm d w N0 (kx_settled u)) (H : kj_Se d s w N0) {i : Nat} (hi : i < kj_c d) (si : s.testBit i = false) (r : kj_rdy d s i)
    (K : ∀ (w' : Nat) (N1 : Nat → Nat) (st y : Nat → Int32) (n : Int32) (s' f r l t p x a b : Nat → Int32), kj_Se d (s ||| kj_g d i) w' N1 → kj_Nm d w' N1 st → post (kx_sW u (nI (s ||| kj_g d i)) (nI w') st y n s' f r l t p x a b)) : wpX_settle post u (nI (kj_g d i)) := by
  have ok := h.1
  have h2 := ok.2.1
  have hi4 : i < 4 := Nat.lt_of_lt_of_le hi ok.1
  have gS := kj_g_lt d hi4
  unfold wpX_settle
  refine kj_xsound (u := u) h hn gS H.2.1 ew (fun sn => br_f (by decide) ?_) (fun a ha sa ns => br_t rfl ?_)
  · have sn' : ∀ a, (kj_g d i).testBit a = true → ∀ j, (kj_nd d a).testBit j = true → (kj_g d i).testBit j = true ∨ w.testBit j = true := fun a ga j nj => sn a (kj_g_c ok hi ga) ga j (Nat.lt_of_lt_of_le (kj_nd_lt4 ok nj) ok.1) nj
    refine kj_xsolve (u := u) (S := kj_g d i) (w := w) (N0 := N0) (pin := none) h ⟨gS, H.2.1, ew, fun j gj => kj_g_c ok hi gj, hN, fun j gj => hf j (kj_g_c ok hi gj), sn'⟩ (Or.inl ⟨rfl, by decide⟩) (fun y n s' f r l t p x a b tr Bt e => br_f (by decide) ?_) (fun y n s' f r l t p x a b no => br_t rfl ?_)
    · refine kj_xsettle23T (u := kx_sS u y n s' f r l t p x a b) (s := s) (w := w) gS es ew (fun st e1 e2 => ?_)
      refine K (w ||| kj_g d i) tr st y n s' f r l t p x a b (kj_Se_T ok H hi si ‹_› (sn' i (kj_g_self ok i)) Bt) (fun j hj wj p' hp => ?_)
      have bq := kj_bq (j := j) (h2 j) hp
      rcases Classical.em ((kj_g d i).testBit j = true) with z | z
      · have q8 : 2 * j + p' < 8 := by have := h2 j; have := ok.1; omega
        have cl : kj_cell d (kj_g d i) (2 * j + p') := ⟨by rw [bq]; exact z, by rw [bq, show (2 * j + p') % 2 = p' by have := h2 j; omega]; exact hp⟩
        have lt := Bt.1 j z p' hp
        refine ⟨?_, lt⟩
        have E1 := e1 (2 * j + p') q8 cl.1
        have E2 := e (2 * j + p') q8 cl
        rw [E1]
        show vp_nar .byte (y (2 * j + p')) = _
        rw [E2, kj_nb' (by omega)]
      · have nq : ¬ (kj_g d i).testBit ((2 * j + p') / 2) = true := by rw [bq]; exact z
        have wj' : w.testBit j = true := by
          rcases (kj_tbor w (kj_g d i) j).mp wj with y' | y'
          · exact y'
          · exact absurd y' z
        rw [e2 _ nq, Bt.2.1 _ nq]
        exact hN j hj wj' p' hp
    · refine kj_xsettle23F (u := kx_sS u y n s' f r l t p x a b) (s := s) es ?_
      have q := K w N0 (kx_settled u) y n s' f r l t p x a b (kj_Se_F ok H hi si ‹_› (Or.inr no)) hN
      rw [← ew] at q
      exact q
  · refine kj_xsettle23F (u := u) (s := s) es ?_
    have no : ∃ j, (kj_nd d a).testBit j = true ∧ ¬ (kj_g d i).testBit j = true ∧ ¬ w.testBit j = true := by
      rcases Classical.em (∃ j, (kj_nd d a).testBit j = true ∧ ¬ (kj_g d i).testBit j = true ∧ ¬ w.testBit j = true) with z | z
      · exact z
      · refine absurd (fun j _ nj => ?_) ns
        rcases Classical.em ((kj_g d i).testBit j = true) with y | y
        · exact Or.inl y
        · rcases Classical.em (w.testBit j = true) with x | x
          · exact Or.inr x
          · exact absurd ⟨j, nj, y, x⟩ z
    obtain ⟨j, nj, gj, wj⟩ := no
    have q := K w N0 (kx_settled u) (kx_trial u) (kx_nodes u) (kx_sort u) (kx_left u) (kx_right u) (kx_link u) (kx_typeNode u) (kx_parameterNode u) (kx_values u) (kx_todoA u) (kx_todoB u) (kj_Se_F ok H hi si r (Or.inl ⟨a, j, sa, nj, gj, wj⟩)) hN
    rw [← ew] at q
    exact q
end
section
/-! ===== X: judge ===== -/
abbrev kx_sM (u : SX) (fi fc na : Nat → Int32) : SX := ((kx_count u), (kx_all u), (1), (kx_settledSet u), (kx_wellSet u), (kx_nodes u), (kx_arity u), (kx_sizes u), (kx_tokens u), (fi), (fc), (na), (kx_settled u), (kx_trial u), (kx_sort u), (kx_left u), (kx_right u), (kx_link u), (kx_typeNode u), (kx_parameterNode u), (kx_values u), (kx_todoA u), (kx_todoB u))
theorem kj_xjudge62 {post : SX → Prop} {u : SX} {d : kj_D} (h : kj_X d (kx_count u) (kx_arity u) (kx_sizes u) (kx_tokens u)) (hn : kj_XN d (kx_need u)) (hf : ∀ i, i < kj_c d → kx_finished u i = nI (kj_e d i))
    (K : ∀ (s w : Nat) (N0 : Nat → Nat) (st y : Nat → Int32) (n : Int32) (s' f r l t p x a b : Nat → Int32), kj_Se d s w N0 → kj_Nm d w N0 st → (∀ i, i < kj_c d → s.testBit i = true) → post (kx_sW u (nI s) (nI w) st y n s' f r l t p x a b)) :
    ∀ (m z s w : Nat) (N0 : Nat → Nat) (st y : Nat → Int32) (n : Int32) (s' f r l t p x a b : Nat → Int32), z + m = 4 → kj_Se d s w N0 → kj_Nm d w N0 st → ((∀ i, i < kj_c d → s.testBit i = true) ∨ z ≤ kj_pc s) →
      wX_judge_62 post (m + 1) (nI z) (kx_count (kx_sW u (nI s) (nI w) st y n s' f r l t p x a b)) (kx_all (kx_sW u (nI s) (nI w) st y n s' f r l t p x a b)) (kx_judged (kx_sW u (nI s) (nI w) st y n s' f r l t p x a b)) (kx_settledSet (kx_sW u (nI s) (nI w) st y n s' f r l t p x a b)) (kx_wellSet (kx_sW u (nI s) (nI w) st y n s' f r l t p x a b)) (kx_nodes (kx_sW u (nI s) (nI w) st y n s' f r l t p x a b)) (kx_arity (kx_sW u (nI s) (nI w) st y n s' f r l t p x a b)) (kx_sizes (kx_sW u (nI s) (nI w) st y n s' f r l t p x a b)) (kx_tokens (kx_sW u (nI s) (nI w) st y n s' f r l t p x a b)) (kx_finished (kx_sW u (nI s) (nI w) st y n s' f r l t p x a b)) (kx_fieldCount (kx_sW u (nI s) (nI w) st y n s' f r l t p x a b)) (kx_need (kx_sW u (nI s) (nI w) st y n s' f r l t p x a b)) (kx_settled (kx_sW u (nI s) (nI w) st y n s' f r l t p x a b)) (kx_trial (kx_sW u (nI s) (nI w) st y n s' f r l t p x a b)) (kx_sort (kx_sW u (nI s) (nI w) st y n s' f r l t p x a b)) (kx_left (kx_sW u (nI s) (nI w) st y n s' f r l t p x a b)) (kx_right (kx_sW u (nI s) (nI w) st y n s' f r l t p x a b)) (kx_link (kx_sW u (nI s) (nI w) st y n s' f r l t p x a b)) (kx_typeNode (kx_sW u (nI s) (nI w) st y n s' f r l t p x a b)) (kx_parameterNode (kx_sW u (nI s) (nI w) st y n s' f r l t p x a b)) (kx_values (kx_sW u (nI s) (nI w) st y n s' f r l t p x a b)) (kx_todoA (kx_sW u (nI s) (nI w) st y n s' f r l t p x a b)) (kx_todoB (kx_sW u (nI s) (nI w) st y n s' f r l t p x a b)) := by
  have ok := h.1
  intro m
  induction m with
  | zero =>
    intro z s w N0 st y n s' f r l t p x a b hz H N P
    refine pk_le 4 z (fun _ => K s w N0 st y n s' f r l t p x a b H N ?_) (fun q => by omega) rfl rfl (by decide) (by omega)
    rcases P with P | P
    · exact P
    · exact fun i hi => kj_pc_4 (Nat.lt_of_lt_of_le hi ok.1) (by omega)
  | succ m ih =>
    intro z s w N0 st y n s' f r l t p x a b hz H N P
    refine pk_le 4 z (fun q => by omega) (fun _ => ?_) rfl rfl (by decide) (by omega)
    refine kj_xnext (u := kx_sW u (nI s) (nI w) st y n s' f r l t p x a b) (d := d) (s := s) h hn H.1 rfl (fun i hi si rd => ?_) (fun no => br_t rfl (nm_r (nI_1 z) ?_))
    · have hi4 : i < 4 := Nat.lt_of_lt_of_le hi ok.1
      have gl := kj_g_lt d hi4
      have g0 : 0 < kj_g d i := by
        rcases Nat.eq_zero_or_pos (kj_g d i) with e | e
        · have := kj_g_self ok i
          rw [e, kj_z1] at this
          exact absurd this (by decide)
        · exact e
      refine br_f (nI_ne0 g0 (by omega)) ?_
      refine kj_xsettle (u := kx_sW u (nI s) (nI w) st y n s' f r l t p x a b) (d := d) (s := s) (w := w) (N0 := N0) h hn hf rfl rfl N H hi si rd (fun w' N1 st1 y1 n1 s1 f1 r1 l1 t1 p1 x1 a1 b1 H1 M1 => nm_r (nI_1 z) ?_)
      refine ih (z + 1) (s ||| kj_g d i) w' N1 st1 y1 n1 s1 f1 r1 l1 t1 p1 x1 a1 b1 (by omega) H1 M1 (Or.inr ?_)
      have pl := kj_pc_lt hi4 si (kj_g_self ok i)
      rcases P with P | P
      · rw [P i hi] at si; exact absurd si (by decide)
      · omega
    · exact ih (z + 1) s w N0 st y n s' f r l t p x a b (by omega) H N (Or.inl (kj_Se_all ok no))
/-- what is held once X has judged -/
def kj_JD (d : kj_D) (na : Nat → Int32) (wS : Int32) (st fi : Nat → Int32) : Prop := kj_XN d na ∧ (∀ i, i < kj_c d → fi i = nI (kj_e d i)) ∧ ∃ (w : Nat) (N0 : Nat → Nat), wS = nI w ∧ w < 16 ∧ (∀ j, w.testBit j = true → j < kj_c d) ∧ kj_Nm d w N0 st ∧ ∀ i, i < kj_c d → kj_Sp d w N0 i
def kj_St (u u' : SX) : Prop := kx_count u' = kx_count u ∧ kx_all u' = kx_all u ∧ kx_arity u' = kx_arity u ∧ kx_sizes u' = kx_sizes u ∧ kx_tokens u' = kx_tokens u
theorem kj_St_X {u u' : SX} {d : kj_D} (s : kj_St u u') (h : kj_X d (kx_count u) (kx_arity u) (kx_sizes u) (kx_tokens u)) : kj_X d (kx_count u') (kx_arity u') (kx_sizes u') (kx_tokens u') := by
  rw [s.1, s.2.2.1, s.2.2.2.1, s.2.2.2.2]; exact h
theorem kj_St_rf (u : SX) : kj_St u u := ⟨rfl, rfl, rfl, rfl, rfl⟩
theorem kj_St_tr {u v w : SX} (a : kj_St u v) (b : kj_St v w) : kj_St u w := ⟨b.1.trans a.1, b.2.1.trans a.2.1, b.2.2.1.trans a.2.2.1, b.2.2.2.1.trans a.2.2.2.1, b.2.2.2.2.trans a.2.2.2.2⟩
theorem kj_xjudge15 {post : SX → Prop} {u : SX} {d : kj_D} (h : kj_X d (kx_count u) (kx_arity u) (kx_sizes u) (kx_tokens u))
    (K : ∀ u', kj_St u u' → ¬ kx_judged u' = 0 → kj_JD d (kx_need u') (kx_wellSet u') (kx_settled u') (kx_finished u') → post u') :
    ∀ (m x : Nat) (fi fc na : Nat → Int32), x + m = kj_c d → (∀ i, i < x → fi i = nI (kj_e d i)) → (∀ i, i < x → na i = nI (kj_r0 d i)) → wX_judge_15 post (m + 1) (nI x) (kx_count (kx_sM u fi fc na)) (kx_all (kx_sM u fi fc na)) (kx_judged (kx_sM u fi fc na)) (kx_settledSet (kx_sM u fi fc na)) (kx_wellSet (kx_sM u fi fc na)) (kx_nodes (kx_sM u fi fc na)) (kx_arity (kx_sM u fi fc na)) (kx_sizes (kx_sM u fi fc na)) (kx_tokens (kx_sM u fi fc na)) (kx_finished (kx_sM u fi fc na)) (kx_fieldCount (kx_sM u fi fc na)) (kx_need (kx_sM u fi fc na)) (kx_settled (kx_sM u fi fc na)) (kx_trial (kx_sM u fi fc na)) (kx_sort (kx_sM u fi fc na)) (kx_left (kx_sM u fi fc na)) (kx_right (kx_sM u fi fc na)) (kx_link (kx_sM u fi fc na)) (kx_typeNode (kx_sM u fi fc na)) (kx_parameterNode (kx_sM u fi fc na)) (kx_values (kx_sM u fi fc na)) (kx_todoA (kx_sM u fi fc na)) (kx_todoB (kx_sM u fi fc na)) := by
  have ok := h.1
  have hc := ok.1
  have cc := h.2.1
  intro m
  induction m with
  | zero =>
    intro x fi fc na hx hf hn
    have ex : x = kj_c d := by omega
    subst ex
    refine pk_le (kj_c d) (kj_c d) (fun _ => ?_) (fun q => by omega) cc rfl (by omega) (by omega)
    refine kj_xclose (u := kx_sM u fi fc na) (d := d) h hn (fun na' hn' => ⟨5, ?_⟩)
    refine kj_xjudge62 (u := kx_sM u fi fc na') (d := d) h hn' hf (fun s w N0 st y n s' f r l t p x a b H N A => ?_) 4 0 0 0 (fun _ => 0) (kx_settled u) (kx_trial u) (kx_nodes u) (kx_sort u) (kx_left u) (kx_right u) (kx_link u) (kx_typeNode u) (kx_parameterNode u) (kx_values u) (kx_todoA u) (kx_todoB u) (by decide) (kj_Se_0 d _) (fun j _ wj => ?_) (Or.inr (Nat.zero_le _))
    · exact K _ ⟨rfl, rfl, rfl, rfl, rfl⟩ (by show ¬ (1 : Int32) = 0; decide) ⟨hn', hf, w, N0, rfl, H.2.1, fun j wj => H.2.2.2.1 j (H.2.2.1 j wj), N, fun i hi => H.2.2.2.2.2 i (A i hi)⟩
    · rw [kj_z1] at wj; exact absurd wj (by decide)
  | succ m ih =>
    intro x fi fc na hx hf hn
    refine pk_le (kj_c d) x (fun q => by omega) (fun _ => ?_) cc rfl (by omega) (by omega)
    refine kj_xmeas (u := kx_sM u fi fc na) (d := d) h (by omega) (fun fc' fi' a1 a2 a3 a4 => ?_)
    refine kj_xocc (u := kx_sM u fi' fc' na) (d := d) h (by omega) a3 ⟨vp_in_nI (by omega) (by decide), nm_r (e' := upd na x (nI (kj_r0 d x))) ?_ (nm_r (nI_1 x) ?_)⟩
    · have lt := kj_r0_lt ok x
      rw [kj_cl (by omega), ← kj_r0_t (by omega : x < kj_c d), kj_nb (by omega)]
    · refine ih (x + 1) fi' fc' (upd na x (nI (kj_r0 d x))) (by omega) (fun i hi => ?_) (fun i hi => ?_)
      · rcases Nat.lt_or_ge i x with z | z
        · rw [a4 i (by omega)]; exact hf i z
        · rw [show i = x by omega]; exact a3
      · rcases Nat.lt_or_ge i x with z | z
        · rw [pk_un (by omega)]; exact hn i z
        · rw [show i = x by omega]; exact pk_us
theorem kj_xjudge {post : SX → Prop} {u : SX} {d : kj_D} (h : kj_X d (kx_count u) (kx_arity u) (kx_sizes u) (kx_tokens u)) (hj : ¬ kx_judged u = 0 → kj_JD d (kx_need u) (kx_wellSet u) (kx_settled u) (kx_finished u))
    (K : ∀ u', kj_St u u' → ¬ kx_judged u' = 0 → kj_JD d (kx_need u') (kx_wellSet u') (kx_settled u') (kx_finished u') → post u') : wpX_judge post u := by
  refine br_c (fun z => ⟨kj_c d + 1, ?_⟩) (fun z => K u (kj_St_rf u) z (hj z))
  exact kj_xjudge15 h K (kj_c d) 0 (kx_finished u) (kx_fieldCount u) (kx_need u) (Nat.zero_add _) (fun i hi => absurd hi (Nat.not_lt_zero i)) (fun i hi => absurd hi (Nat.not_lt_zero i))
end
section
/-! ===== Y: declared, read, findNeeds, groupOf ===== -/
theorem kj_ydecl {post : Int32 → Prop} {v : SY} {d : kj_D} (h : kj_X d (ky_count v) (ky_params v) (ky_size v) (ky_tokens v)) (p : Int32) (K1 : ∀ i, i < kj_c d → p = nI i → post 1) (K0 : (∀ i, i < kj_c d → p ≠ nI i) → post 0) : wpY_declared post v p := by
  have hc := kj_c4 h
  refine br_c (fun hn => K0 (fun i hi e => ?_)) (fun hn => ?_)
  · rw [e] at hn; exact nI_pos (by omega) hn
  · obtain ⟨j, hj, rfl⟩ := nI_of hn
    refine pk_le (kj_c d) j (fun z => K0 (fun i hi e => ?_)) (fun z => K1 j z rfl) h.2.1 rfl (by omega) hj
    rw [nI_eq hj (by omega)] at e
    omega
theorem kj_yread {post : Int32 → Prop} {v : SY} {d : kj_D} {i : Nat} (h : kj_X d (ky_count v) (ky_params v) (ky_size v) (ky_tokens v)) (hi : i < 4) (w : Int32) (K0 : w = 0 → post (nI (kj_f d i))) (K1 : ¬ w = 0 → post (nI (kj_e d i))) : wpY_read post v (nI i) w := by
  have hin : vp_in (nI i) 4 := vp_in_nI hi (by decide)
  have ci : (nI i).toNatClampNeg = i := kj_cl (by omega)
  have hsz := h.1.2.2.1 i
  have hs : ky_size v (nI i).toNatClampNeg = nI (kj_sz d i) := by rw [ci]; exact h.2.2.2.1 i
  have key : ∀ m k, k + m = kj_sz d i → wY_read_11 post (nI i) w (ky_count v) (ky_params v) (ky_size v) (ky_tokens v) (ky_need v) (ky_done v) (ky_good v) (ky_number v) (ky_stack v) (m + 1) (nI (kj_op (kj_t d i) k)) (nI (kj_fd (kj_t d i) k)) (nI (kj_en (kj_t d i) k)) (nI k) := by
    intro m
    induction m with
    | zero =>
      intro k hk
      have ek : k = kj_sz d i := by omega
      refine And.intro hin (pk_le (kj_sz d i) k (fun _ => ?_) (fun z => by omega) hs rfl (by omega) (by omega))
      subst ek
      exact br_c K0 K1
    | succ m ih =>
      intro k hk
      have hop := kj_op_pos (kj_t d i) k
      have hol := kj_op_le (kj_t d i) k
      have tk : ky_tokens v (20 * nI i + nI k).toNatClampNeg = nI (kj_t d i k) := by rw [kj_20', kj_cl (by omega)]; exact h.2.2.2.2 _
      have t10 := kj_t10 h.1 i k
      refine And.intro hin (pk_le (kj_sz d i) k (fun z => by omega) (fun _ => ?_) hs rfl (by omega) (by omega))
      refine pk_le 20 k (fun z => by omega) (fun _ => ⟨kj_in (kj_20' k) (by omega) (by decide), ?_⟩) rfl rfl (by decide) (by omega)
      refine pk_eq (kj_t d i k) 0 (fun z => ?_) (fun z => ?_) tk rfl (by omega) (by decide)
      · refine pk_eq (kj_op (kj_t d i) k + 1) 0 (fun y => by omega) (fun _ => nm_r (nI_1 k) ?_) (nI_1 _) rfl (by omega) (by decide)
        have e := ih (k + 1) (by omega)
        rw [kj_op0 z, kj_fdF (fun y => y.1 z), kj_enF (fun y => y.1 z)] at e
        rw [nI_1 (kj_op (kj_t d i) k)]
        exact e
      · have em : nI (kj_op (kj_t d i) k) - 1 = nI (kj_op (kj_t d i) k - 1) := pk_sub (b := 1) hop
        refine pk_eq (kj_op (kj_t d i) k - 1) 0 (fun y => ?_) (fun y => nm_r (nI_1 k) ?_) em rfl (by omega) (by decide)
        · have y1 : kj_op (kj_t d i) k = 1 := by omega
          refine nm_r (nI_1 _) (nm_r (nI_1 k) (nm_r (nI_1 k) ?_))
          have e := ih (k + 1) (by omega)
          rw [kj_op1 z y1, kj_fdT z y1, kj_enT z y1] at e
          exact e
        · have y1 : kj_op (kj_t d i) k ≠ 1 := by omega
          have e := ih (k + 1) (by omega)
          rw [kj_op2 z y1, kj_fdF (fun q => y1 q.2), kj_enF (fun q => y1 q.2)] at e
          rw [em]
          exact e
  exact Exists.intro (kj_sz d i + 1) (key (kj_sz d i) 0 (by omega))
theorem kj_yfields {post : Int32 → Prop} {v : SY} {d : kj_D} (h : kj_X d (ky_count v) (ky_params v) (ky_size v) (ky_tokens v)) (p : Int32) (K0 : (∀ i, i < kj_c d → p ≠ nI i) → post (-1)) (K1 : ∀ i, i < kj_c d → p = nI i → post (nI (kj_f d i))) : wpY_fields post v p := by
  have hc := kj_c4 h
  unfold wpY_fields
  refine kj_ydecl (v := v) h p (fun i hi e => br_f (by decide) ?_) (fun hn => br_t rfl (K0 hn))
  subst e
  exact kj_yread (v := v) h (by omega) 0 (fun _ => K1 i hi rfl) (fun z => absurd rfl z)
/-- the rows of needs before closing -/
theorem kj_yfn35 {post : SY → Prop} {v : SY} {d : kj_D} (h : kj_X d (ky_count v) (ky_params v) (ky_size v) (ky_tokens v)) {i : Nat} (hi : i < 4) {E : Nat} (hE : E ≤ 20) {J : Int32 → (Nat → Int32) → (Nat → Int32) → (Nat → Int32) → (Nat → Int32) → (Nat → Int32) → (Nat → Int32) → (Nat → Int32) → (Nat → Int32) → Prop} {na0 : Nat → Int32}
    (K : ∀ na : Nat → Int32, na i = nI (kj_oc (kj_t d i) E) → (∀ j, j ≠ i → na j = na0 j) → J (nI (i + 1)) (ky_params v) (ky_size v) (ky_tokens v) (na) (ky_done v) (ky_good v) (ky_number v) (ky_stack v)) :
    ∀ (m k : Nat) (na : Nat → Int32), k + m = E → na i = nI (kj_oc (kj_t d i) k) → (∀ j, j ≠ i → na j = na0 j) → wY_findNeeds_35 post J (nI i) (nI E) (ky_count v) (m + 1) (nI k) (ky_params v) (ky_size v) (ky_tokens v) (na) (ky_done v) (ky_good v) (ky_number v) (ky_stack v) := by
  have hin : vp_in (nI i) 4 := vp_in_nI hi (by decide)
  have ci : (nI i).toNatClampNeg = i := kj_cl (by omega)
  intro m
  induction m with
  | zero =>
    intro k na hk h1 h2
    have ek : k = E := by omega
    subst ek
    exact pk_le k k (fun _ => nm_r (nI_1 i) (K na h1 h2)) (fun z => by omega) rfl rfl (by omega) (by omega)
  | succ m ih =>
    intro k na hk h1 h2
    have tk : ky_tokens v (20 * nI i + nI k).toNatClampNeg = nI (kj_t d i k) := by rw [kj_20', kj_cl (by omega)]; exact h.2.2.2.2 _
    have t10 := kj_t10 h.1 i k
    have n1 : na (nI i).toNatClampNeg = nI (kj_oc (kj_t d i) k) := by rw [ci]; exact h1
    refine pk_le E k (fun z => by omega) (fun _ => ?_) rfl rfl (by omega) (by omega)
    refine pk_le 20 k (fun z => by omega) (fun _ => ⟨kj_in (kj_20' k) (by omega) (by decide), nm_r tk ?_⟩) rfl rfl (by decide) (by omega)
    refine pk_lt (kj_t d i k) 7 (fun z => ⟨hin, hin, nm_r (e' := upd na i (nI (kj_oc (kj_t d i) (k + 1)))) ?_ (nm_r (nI_1 k) ?_)⟩) (fun z => ⟨hin, hin, nm_r (e' := upd na i (nI (kj_oc (kj_t d i) (k + 1)))) ?_ (nm_r (nI_1 k) ?_)⟩) rfl rfl (by omega) (by decide)
    · have e : kj_oc (kj_t d i) (k + 1) = kj_oc (kj_t d i) k := if_pos z
      rw [n1, ci, e]
    · exact ih (k + 1) _ (by omega) pk_us (fun j hj => (pk_un hj).trans (h2 j hj))
    · have e : kj_oc (kj_t d i) (k + 1) = kj_oc (kj_t d i) k ||| 2 ^ (kj_t d i k - 7) := if_neg (by omega)
      have e7 : nI (kj_t d i k) - 7 = nI (kj_t d i k - 7) := pk_sub z
      rw [n1, ci, e, e7, kj_sh1 _ (by omega), kj_or]
    · exact ih (k + 1) _ (by omega) pk_us (fun j hj => (pk_un hj).trans (h2 j hj))
theorem kj_yfn116 {post : SY → Prop} {v : SY} {m0 : Nat → Nat} (hm : ∀ i, m0 i < 16) {p : Nat} {J : Int32 → (Nat → Int32) → (Nat → Int32) → (Nat → Int32) → (Nat → Int32) → (Nat → Int32) → (Nat → Int32) → (Nat → Int32) → (Nat → Int32) → Prop}
    (K : ∀ na : Nat → Int32, (∀ i, i < 4 → na i = nI (kj_ys m0 16 i)) → J (nI (p + 1)) (ky_params v) (ky_size v) (ky_tokens v) (na) (ky_done v) (ky_good v) (ky_number v) (ky_stack v)) :
    ∀ (m q : Nat) (na : Nat → Int32), q + m = 16 → (∀ i, i < 4 → na i = nI (kj_ys m0 q i)) → wY_findNeeds_116 post J (nI p) (ky_count v) (m + 1) (nI q) (ky_params v) (ky_size v) (ky_tokens v) (na) (ky_done v) (ky_good v) (ky_number v) (ky_stack v) := by
  intro m
  induction m with
  | zero =>
    intro q na hq H
    have eq : q = 16 := by omega
    subst eq
    exact pk_le 16 16 (fun _ => nm_r (nI_1 p) (K na H)) (fun z => by omega) rfl rfl (by decide) (by decide)
  | succ m ih =>
    intro q na hq H
    have L := kj_ys_lt hm q
    have e3 : nI q / 4 = nI (q / 4) := pk_div (a := q) (d := 4) (by omega) (by decide) (by decide)
    have e4 : nI q - nI q / 4 * 4 = nI (q % 4) := pk_rem (a := q) (d := 4) (by omega) (by decide) (by decide)
    have i3 : vp_in (nI (q / 4)) 4 := vp_in_nI (by omega) (by decide)
    have i4 : vp_in (nI (q % 4)) 4 := vp_in_nI (by omega) (by decide)
    have c3 : (nI (q / 4)).toNatClampNeg = q / 4 := kj_cl (by omega)
    have c4 : (nI (q % 4)).toNatClampNeg = q % 4 := kj_cl (by omega)
    have n3 : na (nI (q / 4)).toNatClampNeg = nI (kj_ys m0 q (q / 4)) := by rw [c3]; exact H _ (by omega)
    have n4 : na (nI (q % 4)).toNatClampNeg = nI (kj_ys m0 q (q % 4)) := by rw [c4]; exact H _ (by omega)
    have fin : ∀ y, y = kj_ys m0 (q + 1) (q / 4) → ∀ i, i < 4 → upd na (q / 4) (nI y) i = nI (kj_ys m0 (q + 1) i) := fun y ey i hi => by
      rcases Nat.decEq i (q / 4) with z | z
      · rw [pk_un z, kj_ys_ne m0 q z]; exact H i hi
      · rw [z, pk_us, ey]
    refine pk_le 16 q (fun z => by omega) (fun _ => ⟨by decide, nm_r e3 ⟨by decide, nm_r e4 ⟨i3, ?_⟩⟩⟩) rfl rfl (by decide) (by omega)
    refine kj_b1 (kj_ys m0 q (q / 4)) (q % 4) n3 rfl (L _) (by omega) (fun z => ⟨i3, i4, i3, nm_r (e' := upd na (q / 4) (nI (kj_ys m0 q (q / 4) ||| kj_ys m0 q (q % 4)))) ?_ (nm_r (nI_1 q) (ih (q + 1) _ (by omega) (fin _ ?_)))⟩) (fun z => ⟨i3, i3, nm_r (e' := upd na (q / 4) (nI (kj_ys m0 q (q / 4)))) ?_ (nm_r (nI_1 q) (ih (q + 1) _ (by omega) (fin _ ?_)))⟩)
    · rw [n3, n4, c3, kj_or]
    · show _ = kj_up (kj_ys m0 q) (q / 4) _ (q / 4)
      rw [kj_us, if_pos z]
    · rw [n3, c3]
    · show _ = kj_up (kj_ys m0 q) (q / 4) _ (q / 4)
      rw [kj_us, if_neg (by rw [z]; decide)]
theorem kj_yfind {post : SY → Prop} {v : SY} {d : kj_D} (h : kj_X d (ky_count v) (ky_params v) (ky_size v) (ky_tokens v)) (K : ∀ na : Nat → Int32, (∀ i, i < 4 → na i = nI (kj_nd d i)) → post ((ky_count v), (ky_params v), (ky_size v), (ky_tokens v), (na), (ky_done v), (ky_good v), (ky_number v), (ky_stack v))) : wpY_findNeeds post v := by
  have ok := h.1
  have hc := ok.1
  have R := kj_r0_lt ok
  have pass : ∀ (m p : Nat) (na : Nat → Int32), p + m = 4 → (∀ i, i < 4 → na i = nI (kj_yp (kj_r0 d) p i)) → wY_findNeeds_109 post (ky_count v) (m + 1) (nI p) (ky_params v) (ky_size v) (ky_tokens v) (na) (ky_done v) (ky_good v) (ky_number v) (ky_stack v) := by
    intro m
    induction m with
    | zero =>
      intro p na hp H
      have ep : p = 4 := by omega
      subst ep
      refine pk_le 4 4 (fun _ => K na (fun i hi => ?_)) (fun z => by omega) rfl rfl (by decide) (by decide)
      rw [H i hi, kj_yw R hi]; rfl
    | succ m ih =>
      intro p na hp H
      refine pk_le 4 p (fun z => by omega) (fun _ => ⟨17, ?_⟩) rfl rfl (by decide) (by omega)
      exact kj_yfn116 (kj_yp_lt R p) (fun na' H' => ih (p + 1) na' (by omega) H') 16 0 na (by decide) H
  have rows : ∀ (m x : Nat) (na : Nat → Int32), x + m = 4 → (∀ i, i < x → na i = nI (kj_r0 d i)) → wY_findNeeds_2 post (ky_count v) (m + 1) (nI x) (ky_params v) (ky_size v) (ky_tokens v) (na) (ky_done v) (ky_good v) (ky_number v) (ky_stack v) := by
    intro m
    induction m with
    | zero =>
      intro x na hx H
      have ex : x = 4 := by omega
      subst ex
      exact pk_le 4 4 (fun _ => ⟨5, pass 4 0 na (by decide) H⟩) (fun z => by omega) rfl rfl (by decide) (by decide)
    | succ m ih =>
      intro x na hx H
      have cx : (nI x).toNatClampNeg = x := kj_cl (by omega)
      have next : ∀ E, E ≤ 20 → kj_r0 d x = kj_oc (kj_t d x) E → ∃ n35, wY_findNeeds_35 post (wY_findNeeds_2 post (ky_count v) (m + 1)) (nI x) (nI E) (ky_count v) n35 0 (ky_params v) (ky_size v) (ky_tokens v) (upd na x 0) (ky_done v) (ky_good v) (ky_number v) (ky_stack v) := fun E hE eE => by
        refine ⟨E + 1, kj_yfn35 (na0 := na) h (by omega) hE (fun na' h1 h2 => ?_) E 0 (upd na x 0) (by omega) pk_us (fun j hj => pk_un hj)⟩
        refine ih (x + 1) na' (by omega) (fun i hi => ?_)
        rcases Nat.lt_or_ge i x with z | z
        · rw [h2 i (by omega)]; exact H i z
        · rw [show i = x by omega, h1, eE]
      refine pk_le 4 x (fun z => by omega) (fun _ => ⟨vp_in_nI (by omega) (by decide), nm_r (e' := upd na x 0) (by rw [cx]) ?_⟩) rfl rfl (by decide) (by omega)
      refine pk_le (kj_c d) x (fun z => ?_) (fun z => ?_) h.2.1 rfl (by omega) (by omega)
      · exact next 0 (by decide) (kj_r0_f z)
      · refine kj_yread (v := ((ky_count v), (ky_params v), (ky_size v), (ky_tokens v), (upd na x 0), (ky_done v), (ky_good v), (ky_number v), (ky_stack v))) h (by omega) 1 (fun e => absurd e (by decide)) (fun _ => ?_)
        exact next (kj_e d x) (kj_e_20 ok x) (kj_r0_t z)
  exact Exists.intro 5 (rows 4 0 (ky_need v) (by decide) (fun i hi => absurd hi (Nat.not_lt_zero i)))
def kj_YN (d : kj_D) (na : Nat → Int32) : Prop := ∀ i, i < 4 → na i = nI (kj_nd d i)
theorem kj_ygrp {post : Int32 → Prop} {v : SY} {d : kj_D} (ok : kj_ok d) (hn : kj_YN d (ky_need v)) {i : Nat} (hi : i < 4) (K : post (nI (kj_g d i))) : wpY_groupOf post v (nI i) := by
  have L := kj_nd_lt ok
  have hin : vp_in (nI i) 4 := vp_in_nI hi (by decide)
  have ni : ky_need v (nI i).toNatClampNeg = nI (kj_nd d i) := by rw [kj_cl (by omega)]; exact hn i hi
  have key : ∀ m j, j + m = 4 → wY_groupOf_6 post (nI i) (ky_count v) (ky_params v) (ky_size v) (ky_tokens v) (ky_need v) (ky_done v) (ky_good v) (ky_number v) (ky_stack v) (m + 1) (nI (kj_gm (kj_nd d) i j)) (nI j) := by
    intro m
    induction m with
    | zero =>
      intro j hj
      have ej : j = 4 := by omega
      subst ej
      exact pk_le 4 4 (fun _ => K) (fun z => by omega) rfl rfl (by decide) (by decide)
    | succ m ih =>
      intro j hj
      have nj : ky_need v (nI j).toNatClampNeg = nI (kj_nd d j) := by rw [kj_cl (by omega)]; exact hn j (by omega)
      refine pk_le 4 j (fun z => by omega) (fun _ => ⟨hin, ?_⟩) rfl rfl (by decide) (by omega)
      refine kj_b1 (kj_nd d i) j ni rfl (L i) (by omega) (fun z => ⟨vp_in_nI (by omega) (by decide), ?_⟩) (fun z => ?_)
      · refine kj_b1 (kj_nd d j) i nj rfl (L j) (by omega) (fun y => ?_) (fun y => ?_)
        · have e : kj_gm (kj_nd d) i (j + 1) = kj_gm (kj_nd d) i j ||| 2 ^ j := if_pos ⟨z, y⟩
          refine nm_r (e' := nI (kj_gm (kj_nd d) i (j + 1))) ?_ (nm_r (nI_1 j) (ih (j + 1) (by omega)))
          rw [kj_sh1 j (by omega), kj_or, e]
        · refine nm_r (nI_1 j) ?_
          have e : kj_gm (kj_nd d) i (j + 1) = kj_gm (kj_nd d) i j := if_neg (fun q => by rw [q.2] at y; exact absurd y (by decide))
          rw [← e]; exact ih (j + 1) (by omega)
      · refine nm_r (nI_1 j) ?_
        have e : kj_gm (kj_nd d) i (j + 1) = kj_gm (kj_nd d) i j := if_neg (fun q => by rw [q.1] at z; exact absurd z (by decide))
        rw [← e]; exact ih (j + 1) (by omega)
  exact nm_r (e' := nI (kj_gm (kj_nd d) i 0)) (kj_sh1 i hi) ⟨5, key 4 0 (by decide)⟩
end
section
/-! ===== Y: codeOf, constructor, apply, fieldsFit, fits ===== -/
def kj_en1 : Option Nat → Int32
  | none => -1
  | some c => nI c
theorem kj_ycode {post : Int32 → Prop} {v : SY} {k : Nat} (hk : k < 4) {p : Int32} (hp : p = nI k) (K : post (nI (kj_co k))) : wpY_codeOf post v p := by
  subst hp
  unfold kj_co at K
  refine pk_eq k 2 (fun z => ?_) (fun z => ?_) rfl rfl (by omega) (by decide)
  · rw [if_pos z] at K; exact K
  · rw [if_neg z] at K
    refine pk_eq k 3 (fun y => ?_) (fun y => ?_) rfl rfl (by omega) (by decide)
    · rw [if_pos y] at K; exact K
    · rw [if_neg y] at K; exact K
/-- the numbers of type j lie in Y's table -/
def kj_yn (d : kj_D) (nu : Nat → Int32) (num : Nat → Nat) (j : Nat) : Prop := ∀ p, p < kj_ar d j → nu (2 * j + p) = nI (num (2 * j + p)) ∧ num (2 * j + p) < 4
def kj_cs (d : kj_D) (num : Nat → Nat) (c : Nat) : Nat := if c < 4 then kj_co c else kj_ty (kj_ar d) num (c - 4)
theorem kj_ycons {post : Int32 → Prop} {v : SY} {d : kj_D} {num : Nat → Nat} (h : kj_X d (ky_count v) (ky_params v) (ky_size v) (ky_tokens v)) {c : Nat} (hc : c < 8) (hn : 4 ≤ c → kj_yn d (ky_number v) num (c - 4)) {p : Int32} (hp : p = nI c) (K : post (nI (kj_cs d num c))) : wpY_constructor post v p := by
  subst hp
  unfold kj_cs at K
  refine pk_le 4 c (fun z => ?_) (fun z => ?_) rfl rfl (by decide) (by omega)
  · rw [if_neg (by omega)] at K
    have e : nI c - 4 = nI (c - 4) := pk_sub z
    have h2 := h.1.2.1 (c - 4)
    have N := hn z
    generalize hj : c - 4 = j at e K h2 N
    have cj : (nI j).toNatClampNeg = j := kj_cl (by omega)
    have inj : vp_in (nI j) 4 := vp_in_nI (by omega) (by decide)
    have pj : ky_params v (nI j).toNatClampNeg = nI (kj_ar d j) := by rw [cj]; exact h.2.2.1 j
    refine nm_r e ⟨inj, ?_⟩
    refine pk_eq (kj_ar d j) 0 (fun y => ?_) (fun y => ⟨inj, ?_⟩) pj rfl (by omega) (by decide)
    · rw [kj_ty0 y] at K; exact K
    · have n0 : ky_number v (2 * j) = nI (num (2 * j)) ∧ num (2 * j) < 4 := N 0 (by omega)
      have q0 : ky_number v (2 * nI j).toNatClampNeg = nI (num (2 * j)) := by rw [kj_2z', kj_cl (by omega)]; exact n0.1
      have i0 : vp_in (2 * nI j) 8 := kj_in (kj_2z' j) (by omega) (by decide)
      refine pk_eq (kj_ar d j) 1 (fun x => ⟨i0, ?_⟩) (fun x => ⟨i0, kj_in (kj_2' 1) (by omega) (by decide), ?_⟩) pj rfl (by omega) (by decide)
      · rw [kj_ty1 x, ← nI_add, ← q0] at K; exact K
      · have n1 : ky_number v (2 * j + 1) = nI (num (2 * j + 1)) ∧ num (2 * j + 1) < 4 := N 1 (by omega)
        have q1 : ky_number v (2 * nI j + 1).toNatClampNeg = nI (num (2 * j + 1)) := by
          have e1 : 2 * nI j + 1 = nI (2 * j + 1) := kj_2' 1
          rw [e1, kj_cl (by omega)]; exact n1.1
        rw [kj_ty2 (by omega), ← nI_add, ← nI_add, ← pk_mul, ← q0, ← q1] at K; exact K
  · rw [if_pos z] at K
    exact kj_ycode (v := v) (by omega) rfl K
def kj_oap : Option Nat → Option Nat → Option Nat
  | some f, some a => if f ≠ 0 ∧ a = kj_L f then some (kj_R f) else none
  | _, _ => none
def kj_o20 : Option Nat → Prop
  | none => True
  | some c => c ≤ 20
theorem kj_oap_20 {f a : Option Nat} (hf : kj_o20 f) : kj_o20 (kj_oap f a) := by
  cases f with
  | none => exact True.intro
  | some f =>
    cases a with
    | none => exact True.intro
    | some a =>
      have hf' : f ≤ 20 := hf
      show kj_o20 (if f ≠ 0 ∧ a = kj_L f then some (kj_R f) else none)
      rcases Classical.em (f ≠ 0 ∧ a = kj_L f) with z | z
      · rw [if_pos z]; exact kj_R_le f (by omega)
      · rw [if_neg z]; exact True.intro
theorem kj_Lq : ∀ f, f < 21 → f ≠ 0 → (5 ≤ f → (f - 5) / 4 < 4 ∧ kj_L f = kj_co ((f - 5) / 4) ∧ kj_R f = 1 + (f - 5) % 4) ∧ (¬ 5 ≤ f → f - 1 < 4 ∧ kj_L f = kj_co (f - 1) ∧ kj_R f = 0) := by decide +kernel
theorem kj_yapply {post : Int32 → Prop} {v : SY} {f a : Option Nat} (hf : kj_o20 f) (ha : kj_o20 a) {p q : Int32} (hp : p = kj_en1 f) (hq : q = kj_en1 a) (K : post (kj_en1 (kj_oap f a))) : wpY_apply post v p q := by
  subst hp hq
  cases f with
  | none => exact br_t (by decide) K
  | some f =>
    have hf' : f ≤ 20 := hf
    rcases Nat.eq_zero_or_pos f with z | z
    · subst z
      refine br_t (by decide) ?_
      cases a with
      | none => exact K
      | some a =>
        have e : kj_oap (some 0) (some a) = none := by
          show (if (0 : Nat) ≠ 0 ∧ a = kj_L 0 then some (kj_R 0) else none) = none
          rw [if_neg (fun q => q.1 rfl)]
        rw [e] at K; exact K
    · refine br_f (nI_nle z (by omega)) ?_
      cases a with
      | none => exact br_f (by decide) K
      | some a =>
        have ha' : a ≤ 20 := ha
        refine br_t (nI_pos' (by omega)) ?_
        have Q := kj_Lq f (by omega) (by omega)
        have key : ∀ (k : Nat) (X : Int32), X = nI k → k < 4 → kj_L f = kj_co k → (5 ≤ f → kj_R f = 1 + (f - 5) % 4) → (¬ 5 ≤ f → kj_R f = 0) → wY_apply_26 post (nI f) (nI a) X (ky_count v) (ky_params v) (ky_size v) (ky_tokens v) (ky_need v) (ky_done v) (ky_good v) (ky_number v) (ky_stack v) := by
          intro k X eX hk eL r5 r0
          subst eX
          have l20 := kj_co_le k hk
          refine kj_ycode (v := v) hk rfl ?_
          refine pk_eq a (kj_co k) (fun e => ?_) (fun e => ?_) rfl rfl (by omega) (by omega)
          · have ea : kj_oap (some f) (some a) = some (kj_R f) := if_pos ⟨by omega, by rw [eL]; exact e⟩
            rw [ea] at K
            refine pk_le 5 f (fun y => ⟨by decide, ?_⟩) (fun y => ?_) rfl rfl (by decide) (by omega)
            · have e5 : nI f - 5 = nI (f - 5) := pk_sub y
              have em : (nI f - 5) - (nI f - 5) / 4 * 4 = nI ((f - 5) % 4) := by rw [e5]; exact pk_rem (a := f - 5) (d := 4) (by omega) (by decide) (by decide)
              have er : 1 + ((nI f - 5) - (nI f - 5) / 4 * 4) = nI (kj_R f) := by
                rw [em, r5 y]; exact nI_add 1 _
              rw [er]; exact K
            · rw [r0 (by omega)] at K; exact K
          · have ea : kj_oap (some f) (some a) = none := if_neg (fun q => e (by rw [← eL]; exact q.2))
            rw [ea] at K; exact K
        refine pk_le 5 f (fun y => ⟨by decide, ?_⟩) (fun y => ?_) rfl rfl (by decide) (by omega)
        · have q5 := Q.1 y
          have e5 : nI f - 5 = nI (f - 5) := pk_sub y
          have ed : (nI f - 5) / 4 = nI ((f - 5) / 4) := by rw [e5]; exact pk_div (a := f - 5) (d := 4) (by omega) (by decide) (by decide)
          exact key _ _ ed q5.1 q5.2.1 (fun _ => q5.2.2) (fun n => absurd y n)
        · have q0 := Q.2 (by omega)
          have ed : nI f - 1 = nI (f - 1) := pk_sub (b := 1) z
          exact key _ _ ed q0.1 q0.2.1 (fun n => by omega) (fun _ => q0.2.2)
/-! Y's stack -/
def kj_SS (a : Nat → Int32) : List (Option Nat) → Prop
  | [] => True
  | o :: r => a r.length = kj_en1 o ∧ kj_SS a r
theorem kj_SS_f {a a' : Nat → Int32} : ∀ {r : List (Option Nat)}, (∀ j, j < r.length → a' j = a j) → kj_SS a r → kj_SS a' r
  | [], _, _ => True.intro
  | n :: r, h, t => ⟨(h r.length (Nat.lt_succ_self _)).trans t.1, kj_SS_f (r := r) (fun j hj => h j (Nat.lt_succ_of_lt hj)) t.2⟩
theorem kj_SS_m {a : Nat → Int32} : ∀ {ns : List (Option Nat)}, kj_SS a ns → ∀ n, n ∈ ns → ∃ j, j < ns.length ∧ a j = kj_en1 n
  | [], _, n, h => absurd h List.not_mem_nil
  | m :: r, t, n, h => by
    rcases List.mem_cons.mp h with z | z
    · subst z; exact ⟨r.length, Nat.lt_succ_self _, t.1⟩
    · obtain ⟨j, hj, e⟩ := kj_SS_m (ns := r) t.2 n z
      exact ⟨j, Nat.lt_succ_of_lt hj, e⟩
theorem kj_SS_a {a : Nat → Int32} : ∀ {ns : List (Option Nat)}, kj_SS a ns → ∀ j, j < ns.length → ∃ n, n ∈ ns ∧ a j = kj_en1 n
  | [], _, j, h => absurd h (Nat.not_lt_zero _)
  | m :: r, t, j, h => by
    rcases Nat.lt_or_ge j r.length with z | z
    · obtain ⟨n, hn, e⟩ := kj_SS_a (ns := r) t.2 j z
      exact ⟨n, List.mem_cons_of_mem _ hn, e⟩
    · have h' : j < r.length + 1 := h
      have e : j = r.length := by omega
      subst e
      exact ⟨m, List.mem_cons_self .., t.1⟩
/-- what the stack says of the fit, K tokens to come -/
def kj_YS (d : kj_D) (num : Nat → Nat) (i K : Nat) (os : List (Option Nat)) : Prop := (∃ cs : List Nat, os = cs.map some ∧ (kj_ff (kj_ar d) num i (kj_t d i) K cs ↔ kj_Fit d num i)) ∨ (none ∈ os ∧ ¬ kj_Fit d num i)
theorem kj_YS_leaf {d : kj_D} {num : Nat → Nat} {i K : Nat} {os : List (Option Nat)} (h0 : kj_t d i K ≠ 0) (H : kj_YS d num i (K + 1) os) : kj_YS d num i K (some (kj_lf (kj_ar d) num i (kj_t d i K)) :: os) := by
  rcases H with ⟨cs, e, f⟩ | ⟨m, f⟩
  · refine Or.inl ⟨kj_lf (kj_ar d) num i (kj_t d i K) :: cs, by rw [e]; rfl, ⟨fun x => f.mp (And.intro (fun z => absurd z h0) (fun _ => x)), fun x => (kj_ff_s (f.mpr x)).2 h0⟩⟩
  · exact Or.inr ⟨List.mem_cons_of_mem _ m, f⟩
theorem kj_YS_app {d : kj_D} {num : Nat → Nat} {i K : Nat} {f a : Option Nat} {r : List (Option Nat)} (h0 : kj_t d i K = 0) (H : kj_YS d num i (K + 1) (f :: a :: r)) : kj_YS d num i K (kj_oap f a :: r) := by
  rcases H with ⟨cs, e, F⟩ | ⟨m, F⟩
  · cases cs with
    | nil => exact absurd e (by intro z; cases z)
    | cons cf t =>
      cases t with
      | nil => exact absurd e (by intro z; cases z)
      | cons ca cr =>
        have e' : f :: a :: r = some cf :: some ca :: cr.map some := e
        injection e' with e1 e2
        injection e2 with e2 e3
        subst e1 e2 e3
        rcases Classical.em (cf ≠ 0 ∧ ca = kj_L cf) with z | z
        · have eo : kj_oap (some cf) (some ca) = some (kj_R cf) := if_pos z
          rw [eo]
          refine Or.inl ⟨kj_R cf :: cr, rfl, ⟨fun x => F.mp (And.intro (fun _ => ⟨cf, ca, cr, rfl, z.1, z.2, x⟩) (fun q => absurd h0 q)), fun x => ?_⟩⟩
          obtain ⟨f', a', r', e1, _, _, q⟩ := (kj_ff_s (F.mpr x)).1 h0
          injection e1 with x1 x2
          injection x2 with x2 x3
          subst x1 x2 x3
          exact q
        · have eo : kj_oap (some cf) (some ca) = none := if_neg z
          rw [eo]
          refine Or.inr ⟨List.mem_cons_self .., fun x => ?_⟩
          obtain ⟨f', a', r', e1, p, q, _⟩ := (kj_ff_s (F.mpr x)).1 h0
          injection e1 with x1 x2
          injection x2 with x2 x3
          subst x1 x2 x3
          exact z ⟨p, q⟩
  · refine Or.inr ⟨?_, F⟩
    rcases List.mem_cons.mp m with z | z
    · rw [← z]; exact List.mem_cons_self ..
    · rcases List.mem_cons.mp z with y | y
      · rw [← y]
        cases f with
        | none => exact List.mem_cons_self ..
        | some f => exact List.mem_cons_self ..
      · exact List.mem_cons_of_mem _ y
theorem kj_YS_end {d : kj_D} {num : Nat → Nat} {i : Nat} {os : List (Option Nat)} (H : kj_YS d num i 0 os) : (∀ o, o ∈ os → o = some 0) ↔ kj_Fit d num i := by
  rcases H with ⟨cs, e, F⟩ | ⟨m, F⟩
  · subst e
    rw [← F]
    constructor
    · intro h x hx
      have := h (some x) (List.mem_map_of_mem hx)
      injection this
    · intro h o ho
      obtain ⟨x, hx, e⟩ := List.mem_map.mp ho
      have h' : ∀ y, y ∈ cs → y = 0 := h
      rw [← e, h' x hx]
  · constructor
    · intro h
      exact absurd (h none m) (by intro z; cases z)
    · exact fun h => absurd h F
end
section
/-! ===== Y: fieldsFit, fits ===== -/
theorem kj_two' {α : Type} {ns : List α} (h : 2 ≤ ns.length) : ∃ f a r, ns = f :: a :: r := by
  cases ns with
  | nil => exact absurd h (by show ¬ 2 ≤ 0; decide)
  | cons f t =>
    cases t with
    | nil => exact absurd h (by show ¬ 2 ≤ 1; decide)
    | cons a r => exact ⟨f, a, r, rfl⟩
theorem kj_en1_0 {o : Option Nat} (h : kj_o20 o) : kj_en1 o = 0 ↔ o = some 0 := by
  cases o with
  | none => exact ⟨fun z => absurd z (by decide), fun z => absurd z (by intro y; cases y)⟩
  | some c =>
    have h' : c ≤ 20 := h
    constructor
    · intro z
      have z' : nI c = nI 0 := z
      rw [nI_eq (by omega) (by decide)] at z'
      rw [z']
    · intro z
      injection z with z
      rw [z]; rfl
theorem kj_yfit148 {post : Int32 → SY → Prop} {v : SY} {len : Nat} (hl : len ≤ 24) (K1 : (∀ a, a < len → ky_stack v a = 0) → post 1 v) (K0 : (∃ a, a < len ∧ ¬ ky_stack v a = 0) → post 0 v) :
    ∀ (m j : Nat) (x : Int32), j + m = len → ((x = 1 ∧ ∀ a, a < j → ky_stack v a = 0) ∨ (x = 0 ∧ ∃ a, a < len ∧ ¬ ky_stack v a = 0)) → wY_fieldsFit_148 post (nI len) (ky_count v) (ky_params v) (ky_size v) (ky_tokens v) (ky_need v) (ky_done v) (ky_good v) (ky_number v) (ky_stack v) (m + 1) x (nI j) := by
  intro m
  induction m with
  | zero =>
    intro j x hj H
    refine pk_le len j (fun _ => ?_) (fun z => by omega) rfl rfl (by omega) (by omega)
    rcases H with ⟨e, H⟩ | ⟨e, H⟩
    · subst e; exact ⟨kj_nb01 (Or.inr rfl), K1 (fun a ha => H a (by omega))⟩
    · subst e; exact ⟨kj_nb01 (Or.inl rfl), K0 H⟩
  | succ m ih =>
    intro j x hj H
    refine pk_le len j (fun z => by omega) (fun _ => ?_) rfl rfl (by omega) (by omega)
    rcases H with ⟨e, H⟩ | ⟨e, H⟩
    · subst e
      refine br_f (by decide) ⟨vp_in_nI (by omega) (by decide), br_c (fun z => nm_r (nI_1 j) (ih (j + 1) 1 (by omega) (Or.inl ⟨rfl, fun a ha => ?_⟩))) (fun z => nm_r (nI_1 j) (ih (j + 1) 0 (by omega) (Or.inr ⟨rfl, j, by omega, ?_⟩)))⟩
      · rw [kj_cl (by omega)] at z
        rcases Nat.lt_or_ge a j with y | y
        · exact H a y
        · rw [show a = j by omega]; exact z
      · rw [kj_cl (by omega)] at z; exact z
    · subst e
      exact br_t rfl (nm_r (nI_1 j) (ih (j + 1) 0 (by omega) (Or.inr ⟨rfl, H⟩)))
theorem kj_lf1 {ar num : Nat → Nat} {i t : Nat} (h : t < 3) : kj_lf ar num i t = kj_co (num (2 * i + t - 1)) := if_pos h
theorem kj_lf3 {d : kj_D} {num : Nat → Nat} {i t : Nat} (h : 3 ≤ t) : kj_lf (kj_ar d) num i t = kj_cs d num (t - 3) := by
  unfold kj_lf kj_cs
  rw [if_neg (by omega : ¬ t < 3)]
  rcases Nat.lt_or_ge t 7 with y | y
  · rw [if_pos y, if_pos (by omega : t - 3 < 4)]
  · rw [if_neg (by omega : ¬ t < 7), if_neg (by omega : ¬ t - 3 < 4), show t - 3 - 4 = t - 7 by omega]
theorem kj_yfit14 {post : Int32 → SY → Prop} {v : SY} {d : kj_D} {num : Nat → Nat} (h : kj_X d (ky_count v) (ky_params v) (ky_size v) (ky_tokens v)) {i : Nat} (hi : i < kj_c d) (ni : kj_yn d (ky_number v) num i) (nn : ∀ j, (kj_nd d i).testBit j = true → kj_yn d (ky_number v) num j)
    (K1 : ∀ st : Nat → Int32, kj_Fit d num i → post 1 ((ky_count v), (ky_params v), (ky_size v), (ky_tokens v), (ky_need v), (ky_done v), (ky_good v), (ky_number v), (st))) (K0 : ∀ st : Nat → Int32, ¬ kj_Fit d num i → post 0 ((ky_count v), (ky_params v), (ky_size v), (ky_tokens v), (ky_need v), (ky_done v), (ky_good v), (ky_number v), (st))) :
    ∀ (K : Nat) (os : List (Option Nat)) (st : Nat → Int32), K ≤ kj_e d i → kj_SS st os → (∀ o, o ∈ os → kj_o20 o) → os.length = kj_dp (kj_t d i) (kj_sz d i) K → kj_YS d num i K os →
      wY_fieldsFit_14 post (nI i) (ky_count v) (K + 1) (nI os.length) (nI K - 1) (ky_params v) (ky_size v) (ky_tokens v) (ky_need v) (ky_done v) (ky_good v) (ky_number v) (st) := by
  have ok := h.1
  have hc := ok.1
  have he := kj_e_20 ok i
  have h2 := ok.2.1
  intro K
  induction K with
  | zero =>
    intro os st hK hs h20 hl Y
    have hl20 := kj_dp_le (t := kj_t d i) (n := kj_sz d i) (kj_e d i) 0 (Nat.zero_add _)
    have E := kj_YS_end Y
    refine br_t (by decide) ⟨os.length + 1, ?_⟩
    refine kj_yfit148 (v := ((ky_count v), (ky_params v), (ky_size v), (ky_tokens v), (ky_need v), (ky_done v), (ky_good v), (ky_number v), (st))) (len := os.length) (by omega) (fun H => K1 st (E.mp (fun o mo => ?_))) (fun H => K0 st (fun F => ?_)) os.length 0 1 (Nat.zero_add _) (Or.inl ⟨rfl, fun a ha => absurd ha (Nat.not_lt_zero a)⟩)
    · obtain ⟨j, hj, e⟩ := kj_SS_m hs o mo
      exact (kj_en1_0 (h20 o mo)).mp (e.symm.trans (H j hj))
    · obtain ⟨a, ha, ne⟩ := H
      obtain ⟨o, mo, e⟩ := kj_SS_a hs a ha
      exact ne (e.trans ((kj_en1_0 (h20 o mo)).mpr (E.mpr F o mo)))
  | succ K ih =>
    intro os st hK hs h20 hl Y
    have tk : ky_tokens v (20 * nI i + nI K).toNatClampNeg = nI (kj_t d i K) := by rw [kj_20', kj_cl (by omega)]; exact h.2.2.2.2 _
    have t10 := kj_t10 ok i K
    have dl := kj_dp_le (t := kj_t d i) (n := kj_sz d i) (kj_e d i - K) K (by show K + (kj_e d i - K) = kj_e d i; omega)
    have dl1 := kj_dp_le (t := kj_t d i) (n := kj_sz d i) (kj_e d i - (K + 1)) (K + 1) (by show K + 1 + (kj_e d i - (K + 1)) = kj_e d i; omega)
    rw [nI_pred]
    refine br_f (nI_pos (by omega)) ⟨kj_in (kj_20' K) (by omega) (by decide), nm_r tk (pk_eq (kj_t d i K) 0 (fun z => ?_) (fun z => ?_) rfl rfl (by omega) (by decide))⟩
    · have D := kj_dp_0 (t := kj_t d i) (n := kj_sz d i) (k := K) hK z
      obtain ⟨f, a, r, eo⟩ := kj_two' (ns := os) (by omega)
      subst eo
      have len : (f :: a :: r).length = r.length + 2 := rfl
      rw [len] at hl ⊢
      have e1 : nI (r.length + 2) - 1 = nI (r.length + 1) := nI_pred (r.length + 1)
      have e2 : nI (r.length + 2) - 2 = nI r.length := pk_sub (a := r.length + 2) (b := 2) (by omega)
      have x1 : st (nI (r.length + 2) - 1).toNatClampNeg = kj_en1 f := by rw [e1, kj_cl (by omega)]; exact hs.1
      have x2 : st (nI (r.length + 2) - 2).toNatClampNeg = kj_en1 a := by rw [e2, kj_cl (by omega)]; exact hs.2.1
      have i1 : vp_in (nI (r.length + 2) - 1) 24 := kj_in e1 (by omega) (by decide)
      have i2 : vp_in (nI (r.length + 2) - 2) 24 := kj_in e2 (by omega) (by decide)
      have hf := h20 f (List.mem_cons_self ..)
      have ha := h20 a (List.mem_cons_of_mem _ (List.mem_cons_self ..))
      refine pk_lt (r.length + 2) 2 (fun y => by omega) (fun _ => ⟨i1, i2, ?_⟩) rfl rfl (by omega) (by decide)
      refine kj_yapply (v := ((ky_count v), (ky_params v), (ky_size v), (ky_tokens v), (ky_need v), (ky_done v), (ky_good v), (ky_number v), (st))) hf ha x1 x2 ⟨i2, nm_r (e' := upd st r.length (kj_en1 (kj_oap f a))) ?_ (nm_r (e' := nI (r.length + 1)) (pk_m1 (r.length + 1)) (nm_r (kj_m1s K) ?_))⟩
      · rw [e2, kj_cl (by omega)]
      · refine ih (kj_oap f a :: r) _ (by omega) ⟨pk_us, kj_SS_f (fun j hj => pk_un (by omega)) hs.2.2⟩ (fun o mo => ?_) (by show r.length + 1 = _; omega) (kj_YS_app z Y)
        rcases List.mem_cons.mp mo with y | y
        · rw [y]; exact kj_oap_20 hf
        · exact h20 o (List.mem_cons_of_mem _ (List.mem_cons_of_mem _ y))
    · have D := kj_dp_1 (t := kj_t d i) (n := kj_sz d i) (k := K) hK z
      have o := ok.2.2.2.2.2 i hi K (Nat.lt_of_lt_of_le hK (kj_e_le d i))
      have inx : vp_in (nI os.length) 24 := vp_in_nI (by omega) (by decide)
      have cx : (nI os.length).toNatClampNeg = os.length := kj_cl (by omega)
      have push : ∀ c, c = kj_lf (kj_ar d) num i (kj_t d i K) → c ≤ 20 → wY_fieldsFit_14 post (nI i) (ky_count v) (K + 1) (nI (os.length + 1)) (nI K - 1) (ky_params v) (ky_size v) (ky_tokens v) (ky_need v) (ky_done v) (ky_good v) (ky_number v) (upd st os.length (nI c)) := fun c ec c20 => by
        refine ih (some c :: os) (upd st os.length (nI c)) (by omega) ⟨pk_us, kj_SS_f (fun j hj => pk_un (by omega)) hs⟩ (fun q mq => ?_) (by show os.length + 1 = _; omega) ?_
        · rcases List.mem_cons.mp mq with y | y
          · rw [y]; exact c20
          · exact h20 q y
        · rw [ec]; exact kj_YS_leaf z Y
      refine pk_le 24 os.length (fun y => by omega) (fun _ => ?_) rfl rfl (by decide) (by omega)
      refine pk_lt (kj_t d i K) 3 (fun y => ?_) (fun y => ?_) rfl rfl (by omega) (by decide)
      · refine pk_lt (kj_t d i K) 1 (fun x => by omega) (fun _ => ?_) rfl rfl (by omega) (by decide)
        have ta := o.1 (by omega)
        have h2i := h2 i
        have N := ni (kj_t d i K - 1) (by omega)
        have e : 2 * nI i + nI (kj_t d i K) - 1 = nI (2 * i + (kj_t d i K - 1)) := by
          rw [kj_2']
          show nI (2 * i + kj_t d i K) - nI 1 = _
          rw [pk_sub (by omega), show 2 * i + kj_t d i K - 1 = 2 * i + (kj_t d i K - 1) by omega]
        have q : ky_number v (2 * nI i + nI (kj_t d i K) - 1).toNatClampNeg = nI (num (2 * i + (kj_t d i K - 1))) := by rw [e, kj_cl (by omega)]; exact N.1
        refine ⟨kj_in e (by omega) (by decide), ?_⟩
        refine kj_ycode (v := ((ky_count v), (ky_params v), (ky_size v), (ky_tokens v), (ky_need v), (ky_done v), (ky_good v), (ky_number v), (st))) N.2 q ⟨inx, nm_r (e' := upd st os.length (nI (kj_co (num (2 * i + (kj_t d i K - 1)))))) (by rw [cx]) (nm_r (nI_1 os.length) (nm_r (kj_m1s K) (push _ ?_ (kj_co_le _ N.2))))⟩
        rw [kj_lf1 y, show 2 * i + kj_t d i K - 1 = 2 * i + (kj_t d i K - 1) by omega]
      · have e : nI (kj_t d i K) - 3 = nI (kj_t d i K - 3) := pk_sub y
        have N : 4 ≤ kj_t d i K - 3 → kj_yn d (ky_number v) num (kj_t d i K - 3 - 4) := fun x => by
          have := nn _ (kj_nd_of hi hK (by omega))
          rw [show kj_t d i K - 3 - 4 = kj_t d i K - 7 by omega]
          exact this
        refine kj_ycons (v := ((ky_count v), (ky_params v), (ky_size v), (ky_tokens v), (ky_need v), (ky_done v), (ky_good v), (ky_number v), (st))) (d := d) (num := num) h (c := kj_t d i K - 3) (by omega) N e ⟨inx, nm_r (e' := upd st os.length (nI (kj_cs d num (kj_t d i K - 3)))) (by rw [cx]) (nm_r (nI_1 os.length) (nm_r (kj_m1s K) (push _ (kj_lf3 y).symm ?_)))⟩
        unfold kj_cs
        rcases Nat.lt_or_ge (kj_t d i K - 3) 4 with x | x
        · rw [if_pos x]; exact kj_co_le _ x
        · rw [if_neg (by omega)]; exact kj_ty_le ok (fun p hp => (N x p hp).2)
theorem kj_yfit {post : Int32 → SY → Prop} {v : SY} {d : kj_D} {num : Nat → Nat} (h : kj_X d (ky_count v) (ky_params v) (ky_size v) (ky_tokens v)) {i : Nat} (hi : i < kj_c d) (ni : kj_yn d (ky_number v) num i) (nn : ∀ j, (kj_nd d i).testBit j = true → kj_yn d (ky_number v) num j)
    (K1 : ∀ st : Nat → Int32, kj_Fit d num i → post 1 ((ky_count v), (ky_params v), (ky_size v), (ky_tokens v), (ky_need v), (ky_done v), (ky_good v), (ky_number v), (st))) (K0 : ∀ st : Nat → Int32, ¬ kj_Fit d num i → post 0 ((ky_count v), (ky_params v), (ky_size v), (ky_tokens v), (ky_need v), (ky_done v), (ky_good v), (ky_number v), (st))) : wpY_fieldsFit post v (nI i) := by
  have hc := h.1.1
  unfold wpY_fieldsFit
  refine kj_yread (v := v) h (by omega) 1 (fun e => absurd e (by decide)) (fun _ => nm_e ⟨kj_e d i + 1, ?_⟩)
  exact kj_yfit14 h hi ni nn K1 K0 (kj_e d i) [] (ky_stack v) (Nat.le_refl _) True.intro (fun q mq => absurd mq List.not_mem_nil) (kj_dp_end (kj_t d i) (kj_sz d i)).symm (Or.inl ⟨[], rfl, Iff.rfl⟩)
theorem kj_yfits {post : Int32 → SY → Prop} {v : SY} {d : kj_D} {num : Nat → Nat} {S : Nat} (h : kj_X d (ky_count v) (ky_params v) (ky_size v) (ky_tokens v)) (hS : S < 16) (hSc : ∀ j, S.testBit j = true → j < kj_c d) (ni : ∀ i, S.testBit i = true → kj_yn d (ky_number v) num i) (nn : ∀ i, S.testBit i = true → ∀ j, (kj_nd d i).testBit j = true → kj_yn d (ky_number v) num j)
    (K1 : ∀ st : Nat → Int32, (∀ i, S.testBit i = true → kj_Fit d num i) → post 1 ((ky_count v), (ky_params v), (ky_size v), (ky_tokens v), (ky_need v), (ky_done v), (ky_good v), (ky_number v), (st))) (K0 : ∀ st : Nat → Int32, (¬ ∀ i, S.testBit i = true → kj_Fit d num i) → post 0 ((ky_count v), (ky_params v), (ky_size v), (ky_tokens v), (ky_need v), (ky_done v), (ky_good v), (ky_number v), (st))) : wpY_fits post v (nI S) := by
  have hc := h.1.1
  have key : ∀ (m x : Nat) (o : Int32) (st : Nat → Int32), x + m = 4 → ((o = 1 ∧ ∀ i, i < x → S.testBit i = true → kj_Fit d num i) ∨ (o = 0 ∧ ¬ ∀ i, S.testBit i = true → kj_Fit d num i)) → wY_fits_4 post (nI S) (m + 1) o (nI x) (ky_count v) (ky_params v) (ky_size v) (ky_tokens v) (ky_need v) (ky_done v) (ky_good v) (ky_number v) (st) := by
    intro m
    induction m with
    | zero =>
      intro x o st hx H
      refine pk_le 4 x (fun _ => ?_) (fun z => by omega) rfl rfl (by decide) (by omega)
      rcases H with ⟨e, H⟩ | ⟨e, H⟩
      · subst e; exact ⟨kj_nb01 (Or.inr rfl), K1 st (fun i si => H i (by have := hSc i si; omega) si)⟩
      · subst e; exact ⟨kj_nb01 (Or.inl rfl), K0 st H⟩
    | succ m ih =>
      intro x o st hx H
      refine pk_le 4 x (fun z => by omega) (fun _ => ?_) rfl rfl (by decide) (by omega)
      rcases H with ⟨e, H⟩ | ⟨e, H⟩
      · subst e
        refine br_f (by decide) (kj_b0 S x rfl rfl hS (by omega) (fun z => nm_r (nI_1 x) (ih (x + 1) 1 st (by omega) (Or.inl ⟨rfl, fun i hi si => ?_⟩))) (fun z => ?_))
        · rcases Nat.lt_or_ge i x with y | y
          · exact H i y si
          · rw [show i = x by omega, z] at si; exact absurd si (by decide)
        · refine kj_yfit (v := ((ky_count v), (ky_params v), (ky_size v), (ky_tokens v), (ky_need v), (ky_done v), (ky_good v), (ky_number v), (st))) (d := d) (num := num) h (hSc x z) (ni x z) (nn x z) (fun st' F => br_f (by decide) (nm_r (nI_1 x) (ih (x + 1) 1 st' (by omega) (Or.inl ⟨rfl, fun i hi si => ?_⟩)))) (fun st' F => br_t rfl (nm_r (nI_1 x) (ih (x + 1) 0 st' (by omega) (Or.inr ⟨rfl, fun A => F (A x z)⟩))))
          rcases Nat.lt_or_ge i x with y | y
          · exact H i y si
          · rw [show i = x by omega]; exact F
      · subst e
        exact br_t rfl (nm_r (nI_1 x) (ih (x + 1) 0 st (by omega) (Or.inr ⟨rfl, H⟩)))
  exact Exists.intro 5 (key 4 0 1 (ky_stack v) (by decide) (Or.inl ⟨rfl, fun i hi => absurd hi (Nat.not_lt_zero i)⟩))
end
section
/-! ===== Y: choices by their number ===== -/
def kj_V (d : kj_D) (S : Nat) (num : Nat → Nat) : Nat → Nat
  | 0 => 0
  | k + 1 => if S.testBit (k / 2) = true ∧ k % 2 < kj_ar d (k / 2) then 4 * kj_V d S num k + num k else kj_V d S num k
theorem kj_V_t {d : kj_D} {S : Nat} {num : Nat → Nat} {k : Nat} (c : kj_cell d S k) : kj_V d S num (k + 1) = 4 * kj_V d S num k + num k := if_pos c
theorem kj_V_f {d : kj_D} {S : Nat} {num : Nat → Nat} {k : Nat} (c : ¬ kj_cell d S k) : kj_V d S num (k + 1) = kj_V d S num k := if_neg c
theorem kj_V_le {d : kj_D} {S : Nat} {a b : Nat → Nat} : ∀ {k : Nat}, (∀ q, q < k → kj_cell d S q → a q ≤ b q) → kj_V d S a k ≤ kj_V d S b k
  | 0, _ => Nat.le_refl _
  | k + 1, h => by
    have ih := kj_V_le (d := d) (S := S) (a := a) (b := b) (k := k) (fun q hq => h q (by omega))
    rcases Classical.em (kj_cell d S k) with c | c
    · have := h k (by omega) c
      rw [kj_V_t c, kj_V_t c]; omega
    · rw [kj_V_f c, kj_V_f c]; exact ih
theorem kj_V_inj {d : kj_D} {S : Nat} {a b : Nat → Nat} : ∀ {k : Nat}, (∀ q, q < k → kj_cell d S q → a q < 4 ∧ b q < 4) → kj_V d S a k = kj_V d S b k → ∀ q, q < k → kj_cell d S q → a q = b q
  | 0, _, _, q, hq, _ => absurd hq (Nat.not_lt_zero q)
  | k + 1, h, e, q, hq, cq => by
    have IH := fun e' => kj_V_inj (d := d) (S := S) (a := a) (b := b) (k := k) (fun q hq => h q (by omega)) e'
    rcases Classical.em (kj_cell d S k) with c | c
    · rw [kj_V_t c, kj_V_t c] at e
      have hk := h k (by omega) c
      rcases Nat.lt_or_ge q k with z | z
      · exact IH (by omega) q z cq
      · rw [show q = k by omega]; omega
    · rw [kj_V_f c, kj_V_f c] at e
      rcases Nat.lt_or_ge q k with z | z
      · exact IH e q z cq
      · rw [show q = k by omega] at cq; exact absurd cq c
theorem kj_V_cg {d : kj_D} {S : Nat} {a b : Nat → Nat} {k : Nat} (h : ∀ q, q < k → kj_cell d S q → a q = b q) : kj_V d S a k = kj_V d S b k :=
  Nat.le_antisymm (kj_V_le (fun q hq c => Nat.le_of_eq (h q hq c))) (kj_V_le (fun q hq c => Nat.le_of_eq (h q hq c).symm))
/-- how many cells there are -/
def kj_nc (d : kj_D) (S : Nat) : Nat → Nat
  | 0 => 0
  | k + 1 => if S.testBit (k / 2) = true ∧ k % 2 < kj_ar d (k / 2) then kj_nc d S k + 1 else kj_nc d S k
theorem kj_nc_t {d : kj_D} {S k : Nat} (c : kj_cell d S k) : kj_nc d S (k + 1) = kj_nc d S k + 1 := if_pos c
theorem kj_nc_f {d : kj_D} {S k : Nat} (c : ¬ kj_cell d S k) : kj_nc d S (k + 1) = kj_nc d S k := if_neg c
theorem kj_V_lt {d : kj_D} {S : Nat} {a : Nat → Nat} : ∀ {k : Nat}, (∀ q, q < k → kj_cell d S q → a q < 4) → kj_V d S a k < 4 ^ kj_nc d S k
  | 0, _ => by show 0 < 4 ^ 0; decide
  | k + 1, h => by
    have ih := kj_V_lt (d := d) (S := S) (a := a) (k := k) (fun q hq => h q (by omega))
    rcases Classical.em (kj_cell d S k) with c | c
    · have := h k (by omega) c
      rw [kj_V_t c, kj_nc_t c, Nat.pow_succ]; omega
    · rw [kj_V_f c, kj_nc_f c]; exact ih
theorem kj_nc_sum {d : kj_D} {S : Nat} : ∀ j, kj_nc d S (2 * j) ≤ kj_sum (kj_ar d) j
  | 0 => Nat.le_refl _
  | j + 1 => by
    have ih := kj_nc_sum (d := d) (S := S) j
    have e0 : (2 * j) / 2 = j := by omega
    have e1 : (2 * j + 1) / 2 = j := by omega
    have m0 : (2 * j) % 2 = 0 := by omega
    have m1 : (2 * j + 1) % 2 = 1 := by omega
    show kj_nc d S (2 * j + 1 + 1) ≤ kj_sum (kj_ar d) j + kj_ar d j
    rcases Classical.em (kj_cell d S (2 * j + 1)) with c | c
    · have c2 := c.2
      rw [m1, e1] at c2
      rw [kj_nc_t c]
      rcases Classical.em (kj_cell d S (2 * j)) with c' | c'
      · rw [kj_nc_t c']; omega
      · rw [kj_nc_f c']; omega
    · rw [kj_nc_f c]
      rcases Classical.em (kj_cell d S (2 * j)) with c' | c'
      · have c2 := c'.2
        rw [m0, e0] at c2
        rw [kj_nc_t c']; omega
      · rw [kj_nc_f c']; omega
theorem kj_nc_hi {d : kj_D} {S c : Nat} (h : ∀ j, S.testBit j = true → j < c) : ∀ k, kj_nc d S (2 * c + k) = kj_nc d S (2 * c)
  | 0 => rfl
  | k + 1 => by
    have n : ¬ kj_cell d S (2 * c + k) := fun z => by have := h _ z.1; omega
    show kj_nc d S (2 * c + k + 1) = _
    rw [kj_nc_f n]
    exact kj_nc_hi h k
theorem kj_V_8 {d : kj_D} (ok : kj_ok d) {S : Nat} (hSc : ∀ j, S.testBit j = true → j < kj_c d) {a : Nat → Nat} (h : ∀ q, q < 8 → kj_cell d S q → a q < 4) : kj_V d S a 8 < 4096 := by
  have h1 := kj_V_lt (d := d) (S := S) (a := a) (k := 8) h
  have h2 : kj_nc d S 8 ≤ 6 := by
    have a1 := kj_nc_hi (d := d) hSc (8 - 2 * kj_c d)
    have hc := ok.1
    rw [show 2 * kj_c d + (8 - 2 * kj_c d) = 8 by omega] at a1
    have a2 := kj_nc_sum (d := d) (S := S) (kj_c d)
    have a3 := ok.2.2.2.2.1
    omega
  have h3 : 4 ^ kj_nc d S 8 ≤ 4 ^ 6 := Nat.pow_le_pow_right (by decide) h2
  exact Nat.lt_of_lt_of_le h1 h3
theorem kj_ychoose {post : Int32 → SY → Prop} {v : SY} {d : kj_D} (h : kj_X d (ky_count v) (ky_params v) (ky_size v) (ky_tokens v)) {S : Nat} (hS : S < 16) {c0 : Nat} (hc0 : c0 < 4096)
    (K1 : ∀ (nu : Nat → Int32) (num : Nat → Nat), (∀ q, q < 8 → kj_cell d S q → nu q = nI (num q) ∧ num q < 4) → (∀ q, ¬ kj_cell d S q → nu q = ky_number v q) → c0 = kj_V d S num 8 → post 1 ((ky_count v), (ky_params v), (ky_size v), (ky_tokens v), (ky_need v), (ky_done v), (ky_good v), (nu), (ky_stack v)))
    (K0 : ∀ nu : Nat → Int32, (∀ q, ¬ kj_cell d S q → nu q = ky_number v q) → (∀ N : Nat → Nat, (∀ q, q < 8 → kj_cell d S q → N q < 4) → c0 ≠ kj_V d S N 8) → post 0 ((ky_count v), (ky_params v), (ky_size v), (ky_tokens v), (ky_need v), (ky_done v), (ky_good v), (nu), (ky_stack v))) : wpY_choose post v (nI S) (nI c0) := by
  have ok := h.1
  have key : ∀ (k rest : Nat) (nu : Nat → Int32) (num : Nat → Nat), k ≤ 8 → rest < 4096 → (∀ q, k ≤ q → q < 8 → kj_cell d S q → nu q = nI (num q) ∧ num q < 4) → (∀ q, ¬ kj_cell d S q → nu q = ky_number v q) →
      (∀ M : Nat → Nat, (∀ q, k ≤ q → q < 8 → kj_cell d S q → M q = num q) → rest = kj_V d S M k → c0 = kj_V d S M 8) → (∀ N : Nat → Nat, (∀ q, q < 8 → kj_cell d S q → N q < 4) → c0 = kj_V d S N 8 → rest = kj_V d S N k) →
      wY_choose_6 post (nI S) (ky_count v) (k + 1) (nI rest) (nI k - 1) (ky_params v) (ky_size v) (ky_tokens v) (ky_need v) (ky_done v) (ky_good v) (nu) (ky_stack v) := by
    intro k
    induction k with
    | zero =>
      intro rest nu num hk hr H1 H2 HA HB
      refine br_t (by decide) (pk_eq rest 0 (fun z => K1 nu num (fun q hq c => H1 q (Nat.zero_le q) hq c) H2 (HA num (fun _ _ _ _ => rfl) z)) (fun z => K0 nu H2 (fun N hN e => z (HB N hN e))) rfl rfl (by omega) (by decide))
    | succ k ih =>
      intro rest nu num hk hr H1 H2 HA HB
      have e2 : nI k / 2 = nI (k / 2) := pk_div (a := k) (d := 2) (by omega) (by decide) (by decide)
      have em : nI k - nI k / 2 * 2 = nI (k % 2) := pk_rem (a := k) (d := 2) (by omega) (by decide) (by decide)
      have h2 := ok.2.1 (k / 2)
      have pa : ky_params v (nI k / 2).toNatClampNeg = nI (kj_ar d (k / 2)) := by rw [e2, kj_cl (by omega)]; exact h.2.2.1 _
      have skip : ¬ kj_cell d S k → wY_choose_6 post (nI S) (ky_count v) (k + 1) (nI rest) (nI k - 1) (ky_params v) (ky_size v) (ky_tokens v) (ky_need v) (ky_done v) (ky_good v) (nu) (ky_stack v) := fun nc => by
        refine ih rest nu num (by omega) hr (fun q hq hq8 c => ?_) H2 (fun M HM e => HA M (fun q hq hq8 c => HM q (by omega) hq8 c) (by rw [kj_V_f nc]; exact e)) (fun N hN e => by have := HB N hN e; rw [kj_V_f nc] at this; exact this)
        rcases Nat.lt_or_ge k q with z | z
        · exact H1 q z hq8 c
        · rw [show q = k by omega] at c; exact absurd c nc
      rw [nI_pred]
      refine br_f (nI_pos (by omega)) ⟨by decide, kj_b1 S (k / 2) rfl e2 hS (by omega) (fun z => ⟨by decide, by decide, kj_in e2 (by omega) (by decide), ?_⟩) (fun z => nm_r (kj_m1s k) (skip (fun c => by rw [c.1] at z; exact absurd z (by decide))))⟩
      refine pk_le (kj_ar d (k / 2)) (k % 2) (fun y => nm_r (kj_m1s k) (skip (fun c => by have := c.2; omega))) (fun y => ⟨vp_in_nI (by omega) (by decide), ?_⟩) pa em (by omega) (by omega)
      have cl : kj_cell d S k := ⟨z, y⟩
      have e3 : nI rest &&& 3 = nI (rest % 4) := pk_andN (by omega) 2 (by decide)
      have es : nI rest >>> ((2 : Int32) &&& 31) = nI (rest / 4) := pk_shrN (by omega) _ 2 (by decide)
      refine nm_r (e' := upd nu k (nI (rest % 4))) (by rw [kj_cl (by omega), e3]) (nm_r es (nm_r (kj_m1s k) ?_))
      refine ih (rest / 4) _ (kj_up num k (rest % 4)) (by omega) (by omega) (fun q hq hq8 c => ?_) (fun q nq => ?_) (fun M HM e => ?_) (fun N hN e => ?_)
      · rcases Nat.decEq q k with x | x
        · rw [pk_un x, kj_un x]; exact H1 q (by omega) hq8 c
        · rw [x, pk_us, kj_us]; exact ⟨rfl, by omega⟩
      · rw [pk_un (fun x => nq (by rw [x]; exact cl))]; exact H2 q nq
      · refine HA M (fun q hq hq8 c => ?_) ?_
        · rw [HM q (by omega) hq8 c, kj_un (by omega)]
        · have mk := HM k (Nat.le_refl _) (by omega) cl
          rw [kj_us] at mk
          rw [kj_V_t cl, ← e, mk]; omega
      · have q := HB N hN e
        rw [kj_V_t cl] at q
        have := hN k (by omega) cl
        omega
  refine Exists.intro 9 ?_
  have s7 : (7 : Int32) = nI 8 - 1 := by decide
  have r := key 8 c0 (ky_number v) (fun _ => 0) (Nat.le_refl _) hc0 (fun q hq hq8 => by omega) (fun q _ => rfl) (fun M _ e => e) (fun N _ e => e)
  rw [← s7] at r
  exact r
theorem kj_yoth {post : Int32 → Prop} {v : SY} {m : Nat} (hm : m < 16) (w : Int32) (A : Nat → Prop) (h0 : w = 0 → ∀ j, j < 4 → (A j ↔ ¬ ky_done v j = 0)) (h1 : ¬ w = 0 → ∀ j, j < 4 → (A j ↔ ¬ ky_good v j = 0)) {p : Int32} (hp : p = nI m)
    (K1 : (∀ j, j < 4 → m.testBit j = true → A j) → post 1) (K0 : (∃ j, j < 4 ∧ m.testBit j = true ∧ ¬ A j) → post 0) : wpY_others post v p w := by
  subst hp
  have key : ∀ (n x : Nat) (o : Int32), x + n = 4 → ((o = 1 ∧ ∀ j, j < x → m.testBit j = true → A j) ∨ (o = 0 ∧ ∃ j, j < 4 ∧ m.testBit j = true ∧ ¬ A j)) → wY_others_5 post (nI m) w (ky_count v) (ky_params v) (ky_size v) (ky_tokens v) (ky_need v) (ky_done v) (ky_good v) (ky_number v) (ky_stack v) (n + 1) o (nI x) := by
    intro n
    induction n with
    | zero =>
      intro x o hx H
      refine pk_le 4 x (fun _ => ?_) (fun z => by omega) rfl rfl (by decide) (by omega)
      rcases H with ⟨e, H⟩ | ⟨e, H⟩
      · subst e; exact ⟨kj_nb01 (Or.inr rfl), K1 (fun j hj => H j (by omega))⟩
      · subst e; exact ⟨kj_nb01 (Or.inl rfl), K0 H⟩
    | succ n ih =>
      intro x o hx H
      refine pk_le 4 x (fun z => by omega) (fun _ => ?_) rfl rfl (by decide) (by omega)
      rcases H with ⟨e, H⟩ | ⟨e, H⟩
      · subst e
        have ix : vp_in (nI x) 4 := vp_in_nI (by omega) (by decide)
        have cx : (nI x).toNatClampNeg = x := kj_cl (by omega)
        have yes : (m.testBit x = true → A x) → wY_others_5 post (nI m) w (ky_count v) (ky_params v) (ky_size v) (ky_tokens v) (ky_need v) (ky_done v) (ky_good v) (ky_number v) (ky_stack v) (n + 1) 1 (nI (x + 1)) := fun ax => ih (x + 1) 1 (by omega) (Or.inl ⟨rfl, fun j hj mj => by
          rcases Nat.lt_or_ge j x with y | y
          · exact H j y mj
          · rw [show j = x by omega] at mj ⊢; exact ax mj⟩)
        have no : m.testBit x = true → ¬ A x → wY_others_5 post (nI m) w (ky_count v) (ky_params v) (ky_size v) (ky_tokens v) (ky_need v) (ky_done v) (ky_good v) (ky_number v) (ky_stack v) (n + 1) 0 (nI (x + 1)) := fun mx ax => ih (x + 1) 0 (by omega) (Or.inr ⟨rfl, x, by omega, mx, ax⟩)
        refine br_f (by decide) (kj_b0 m x rfl rfl hm (by omega) (fun z => nm_r (nI_1 x) (yes (fun y => by rw [y] at z; exact absurd z (by decide)))) (fun z => ?_))
        refine br_c (fun w0 => ⟨ix, br_c (fun y => nm_r (nI_1 x) (no z ?_)) (fun y => nm_r (nI_1 x) (yes (fun _ => ?_)))⟩) (fun w1 => ⟨ix, br_c (fun y => nm_r (nI_1 x) (no z ?_)) (fun y => nm_r (nI_1 x) (yes (fun _ => ?_)))⟩)
        · rw [cx] at y; exact fun a => (h0 w0 x (by omega)).mp a y
        · rw [cx] at y; exact (h0 w0 x (by omega)).mpr y
        · rw [cx] at y; exact fun a => (h1 w1 x (by omega)).mp a y
        · rw [cx] at y; exact (h1 w1 x (by omega)).mpr y
      · subst e
        exact br_t rfl (nm_r (nI_1 x) (ih (x + 1) 0 (by omega) (Or.inr ⟨rfl, H⟩)))
  exact Exists.intro 5 (key 4 0 1 (by decide) (Or.inl ⟨rfl, fun j hj => absurd hj (Nat.not_lt_zero j)⟩))
theorem kj_nz {x : Int32} (h : x = 0 ∨ x = 1) : vp_nar .boolean x = x := by
  rcases h with h | h <;> rw [h] <;> rfl
theorem kj_yset72 {post : SY → Prop} {v : SY} {S : Nat} (hS : S < 16) {x3 : Int32} (hx : x3 = 0 ∨ x3 = 1)
    (K : ∀ dn go : Nat → Int32, (∀ j, j < 4 → S.testBit j = true → dn j = 1 ∧ go j = x3) → (∀ j, ¬ S.testBit j = true → dn j = ky_done v j ∧ go j = ky_good v j) → post ((ky_count v), (ky_params v), (ky_size v), (ky_tokens v), (ky_need v), (dn), (go), (ky_number v), (ky_stack v))) : ∃ n72, wY_settle_72 post (nI S) x3 (ky_count v) n72 0 (ky_params v) (ky_size v) (ky_tokens v) (ky_need v) (ky_done v) (ky_good v) (ky_number v) (ky_stack v) := by
  have key : ∀ (n x : Nat) (dn go : Nat → Int32), x + n = 4 → (∀ j, j < x → S.testBit j = true → dn j = 1 ∧ go j = x3) → (∀ j, ¬ S.testBit j = true → dn j = ky_done v j ∧ go j = ky_good v j) → wY_settle_72 post (nI S) x3 (ky_count v) (n + 1) (nI x) (ky_params v) (ky_size v) (ky_tokens v) (ky_need v) (dn) (go) (ky_number v) (ky_stack v) := by
    intro n
    induction n with
    | zero =>
      intro x dn go hx4 H1 H2
      exact pk_le 4 x (fun _ => K dn go (fun j hj => H1 j (by omega)) H2) (fun z => by omega) rfl rfl (by decide) (by omega)
    | succ n ih =>
      intro x dn go hx4 H1 H2
      have ix : vp_in (nI x) 4 := vp_in_nI (by omega) (by decide)
      have cx : (nI x).toNatClampNeg = x := kj_cl (by omega)
      refine pk_le 4 x (fun z => by omega) (fun _ => ?_) rfl rfl (by decide) (by omega)
      refine kj_b1 S x rfl rfl hS (by omega) (fun z => ⟨ix, nm_r (e' := upd dn x 1) (by rw [cx, kj_nt1]) ⟨ix, nm_r (e' := upd go x x3) (by rw [cx, kj_nz hx]) (nm_r (nI_1 x) (ih (x + 1) _ _ (by omega) (fun j hj sj => ?_) (fun j nj => ?_)))⟩⟩) (fun z => nm_r (nI_1 x) (ih (x + 1) dn go (by omega) (fun j hj sj => ?_) H2))
      · rcases Nat.lt_or_ge j x with y | y
        · rw [pk_un (by omega), pk_un (by omega)]; exact H1 j y sj
        · rw [show j = x by omega, pk_us, pk_us]; exact ⟨rfl, rfl⟩
      · have ne : j ≠ x := fun e => nj (by rw [e]; exact z)
        rw [pk_un ne, pk_un ne]; exact H2 j nj
      · rcases Nat.lt_or_ge j x with y | y
        · exact H1 j y sj
        · rw [show j = x by omega, z] at sj; exact absurd sj (by decide)
  exact ⟨5, key 4 0 (ky_done v) (ky_good v) (by decide) (fun j hj => absurd hj (Nat.not_lt_zero j)) (fun j _ => ⟨rfl, rfl⟩)⟩
end
section
/-! ===== Y: settle ===== -/
def kj_OK (d : kj_D) (S : Nat) (N0 num : Nat → Nat) : Prop := (∀ q, q < 8 → kj_cell d S q → num q < 4) ∧ ∀ q, ¬ kj_cell d S q → num q = N0 q
def kj_mix (d : kj_D) (S : Nat) (num N0 : Nat → Nat) : Nat → Nat := fun q => if S.testBit (q / 2) = true ∧ q % 2 < kj_ar d (q / 2) then num q else N0 q
theorem kj_mix_t {d : kj_D} {S : Nat} {num N0 : Nat → Nat} {q : Nat} (c : kj_cell d S q) : kj_mix d S num N0 q = num q := if_pos c
theorem kj_mix_f {d : kj_D} {S : Nat} {num N0 : Nat → Nat} {q : Nat} (c : ¬ kj_cell d S q) : kj_mix d S num N0 q = N0 q := if_neg c
theorem kj_cell_of {d : kj_D} (ok : kj_ok d) {S j p : Nat} (sj : S.testBit j = true) (hp : p < kj_ar d j) : kj_cell d S (2 * j + p) := by
  have h2 := ok.2.1 j
  refine ⟨?_, ?_⟩
  · rw [kj_bq h2 hp]; exact sj
  · rw [kj_bq h2 hp, show (2 * j + p) % 2 = p by omega]; exact hp
theorem kj_cell_no {d : kj_D} (ok : kj_ok d) {S j p : Nat} (sj : ¬ S.testBit j = true) (hp : p < kj_ar d j) : ¬ kj_cell d S (2 * j + p) := fun c => by
  have h2 := ok.2.1 j
  have := c.1
  rw [kj_bq h2 hp] at this
  exact sj this
theorem kj_OK_eq {d : kj_D} {S : Nat} {N0 a b : Nat → Nat} (A : kj_OK d S N0 a) (B : kj_OK d S N0 b) (e : kj_V d S a 8 = kj_V d S b 8) (h8 : ∀ q, kj_cell d S q → q < 8) : a = b := by
  funext q
  rcases Classical.em (kj_cell d S q) with c | c
  · exact kj_V_inj (fun q hq c => ⟨A.1 q hq c, B.1 q hq c⟩) e q (h8 q c) c
  · rw [A.2 q c, B.2 q c]
theorem kj_cell8 {d : kj_D} (ok : kj_ok d) {S : Nat} (hSc : ∀ j, S.testBit j = true → j < kj_c d) (q : Nat) (c : kj_cell d S q) : q < 8 := by
  have := hSc _ c.1
  have := ok.1
  omega
theorem kj_mix_OK {d : kj_D} {S : Nat} {num N0 : Nat → Nat} (h : ∀ q, q < 8 → kj_cell d S q → num q < 4) : kj_OK d S N0 (kj_mix d S num N0) ∧ kj_V d S (kj_mix d S num N0) 8 = kj_V d S num 8 :=
  ⟨⟨fun q hq c => by rw [kj_mix_t c]; exact h q hq c, fun q c => kj_mix_f c⟩, kj_V_cg (fun q _ c => kj_mix_t c)⟩
/-- what the tables say, for the fit of the chosen numbers -/
theorem kj_mix_yn {d : kj_D} (ok : kj_ok d) {S : Nat} {num N0 : Nat → Nat} {nu nv : Nat → Int32} (hSc : ∀ j, S.testBit j = true → j < kj_c d) (h1 : ∀ q, q < 8 → kj_cell d S q → nu q = nI (num q) ∧ num q < 4) (h2 : ∀ q, ¬ kj_cell d S q → nu q = nv q) {j : Nat} (nj : ¬ S.testBit j = true → kj_yn d nv N0 j) : kj_yn d nu (kj_mix d S num N0) j := by
  intro p hp
  rcases Classical.em (S.testBit j = true) with z | z
  · have c := kj_cell_of ok z hp
    rw [kj_mix_t c]
    exact h1 _ (kj_cell8 ok hSc _ c) c
  · have c := kj_cell_no ok z hp
    rw [kj_mix_f c, h2 _ c]
    exact nj z p hp
theorem kj_ysearch {post : SY → Prop} {v : SY} {d : kj_D} {S : Nat} {N0 : Nat → Nat} (h : kj_X d (ky_count v) (ky_params v) (ky_size v) (ky_tokens v)) (hS : S < 16) (hSc : ∀ j, S.testBit j = true → j < kj_c d) (nn : ∀ i, S.testBit i = true → ∀ j, (kj_nd d i).testBit j = true → ¬ S.testBit j = true → kj_yn d (ky_number v) N0 j)
    (KF : ∀ (nu st : Nat → Int32) (num : Nat → Nat), kj_OK d S N0 num → (∀ q, q < 8 → kj_cell d S q → nu q = nI (num q)) → (∀ q, ¬ kj_cell d S q → nu q = ky_number v q) → (∀ i, S.testBit i = true → kj_Fit d num i) → (∀ n2, kj_OK d S N0 n2 → kj_V d S n2 8 < kj_V d S num 8 → ¬ ∀ i, S.testBit i = true → kj_Fit d n2 i) →
      ∃ n72, wY_settle_72 post (nI S) 1 (ky_count v) n72 0 (ky_params v) (ky_size v) (ky_tokens v) (ky_need v) (ky_done v) (ky_good v) (nu) (st))
    (KN : ∀ nu st : Nat → Int32, (∀ q, ¬ kj_cell d S q → nu q = ky_number v q) → (∀ n2, kj_OK d S N0 n2 → ¬ ∀ i, S.testBit i = true → kj_Fit d n2 i) → ∃ n72, wY_settle_72 post (nI S) 0 (ky_count v) n72 0 (ky_params v) (ky_size v) (ky_tokens v) (ky_need v) (ky_done v) (ky_good v) (nu) (st)) :
    ∀ (m c : Nat) (nu st : Nat → Int32), c + m = 4096 → (∀ q, ¬ kj_cell d S q → nu q = ky_number v q) → (∀ n2, kj_OK d S N0 n2 → kj_V d S n2 8 < c → ¬ ∀ i, S.testBit i = true → kj_Fit d n2 i) → wY_settle_22 post (nI S) 1 (m + 2) 0 (nI c) (ky_count v) (ky_params v) (ky_size v) (ky_tokens v) (ky_need v) (ky_done v) (ky_good v) (nu) (st) := by
  have ok := h.1
  intro m
  induction m with
  | zero =>
    intro c nu st hc H1 H2
    refine br_t (nI_le (by omega : 4096 ≤ c) (by omega)) (KN nu st H1 (fun n2 o => H2 n2 o ?_))
    have := kj_V_8 ok hSc o.1
    omega
  | succ m ih =>
    intro c nu st hc H1 H2
    refine br_f (nI_ge (a := c) (b := 4096) (by omega) (by decide)) (br_f (by decide) (br_t rfl ?_))
    refine kj_ychoose (v := ((ky_count v), (ky_params v), (ky_size v), (ky_tokens v), (ky_need v), (ky_done v), (ky_good v), (nu), (st))) (d := d) h hS (c0 := c) (by omega) (fun nu' num e1 e2 ec => br_f (by decide) ?_) (fun nu' e2 no => br_t rfl (nm_r (nI_1 c) ?_))
    · have MO := kj_mix_OK (d := d) (S := S) (num := num) (N0 := N0) (fun q hq cl => (e1 q hq cl).2)
      have e3 : ∀ q, ¬ kj_cell d S q → nu' q = ky_number v q := fun q nq => (e2 q nq).trans (H1 q nq)
      have YN := fun j => kj_mix_yn ok hSc e1 e3 (N0 := N0) (j := j)
      have YN2 : ∀ i, S.testBit i = true → ∀ j, (kj_nd d i).testBit j = true → kj_yn d nu' (kj_mix d S num N0) j := fun i si j nj => YN j (fun ns => nn i si j nj ns)
      refine kj_yfits (v := ((ky_count v), (ky_params v), (ky_size v), (ky_tokens v), (ky_need v), (ky_done v), (ky_good v), (nu'), (st))) (d := d) (num := kj_mix d S num N0) h hS hSc (fun i si => YN i (fun ns => absurd si ns)) YN2 (fun st' F => br_f (by decide) (nm_r (nI_1 c) ?_)) (fun st' F => br_t rfl (nm_r (nI_1 c) ?_))
      · have R := KF nu' st' (kj_mix d S num N0) MO.1 (fun q hq cl => by rw [kj_mix_t cl]; exact (e1 q hq cl).1) e3 F (fun n2 o2 lt => H2 n2 o2 (by rw [MO.2, ← ec] at lt; exact lt))
        exact br_c (fun _ => R) (fun _ => br_f (by decide) (br_f (by decide) R))
      · refine ih (c + 1) nu' st' (by omega) e3 (fun n2 o2 lt => ?_)
        rcases Nat.lt_or_ge (kj_V d S n2 8) c with z | z
        · exact H2 n2 o2 z
        · have e : n2 = kj_mix d S num N0 := kj_OK_eq o2 MO.1 (by rw [MO.2, ← ec]; omega) (kj_cell8 ok hSc)
          rw [e]; exact F
    · refine ih (c + 1) nu' st (by omega) (fun q nq => (e2 q nq).trans (H1 q nq)) (fun n2 o2 lt => ?_)
      rcases Nat.lt_or_ge (kj_V d S n2 8) c with z | z
      · exact H2 n2 o2 z
      · exact absurd (by omega : c = kj_V d S n2 8) (no n2 o2.1)
theorem kj_OK_Ai {d : kj_D} (ok : kj_ok d) {i : Nat} (hi : i < kj_c d) {N0 num : Nat → Nat} (o : kj_OK d (kj_g d i) N0 num) : kj_Ai d i N0 num :=
  ⟨fun j gj p hp => o.1 _ (kj_cell8 ok (fun j gj => kj_g_c ok hi gj) _ (kj_cell_of ok gj hp)) (kj_cell_of ok gj hp), fun j _ gj p hp => o.2 _ (kj_cell_no ok gj hp)⟩
def kj_bb (w i : Nat) : Int32 := if w.testBit i = true then 1 else 0
theorem kj_bb_t {w i : Nat} (h : w.testBit i = true) : kj_bb w i = 1 := if_pos h
theorem kj_bb_f {w i : Nat} (h : ¬ w.testBit i = true) : kj_bb w i = 0 := if_neg h
theorem kj_bb_n {w i : Nat} : ¬ kj_bb w i = 0 ↔ w.testBit i = true := by
  rcases Classical.em (w.testBit i = true) with z | z
  · rw [kj_bb_t z]; exact ⟨fun _ => z, fun _ => by decide⟩
  · rw [kj_bb_f z]; exact ⟨fun y => absurd rfl y, fun y => absurd y z⟩
theorem kj_ysettle {post : SY → Prop} {v : SY} {d : kj_D} {w : Nat} {N0 : Nat → Nat} (h : kj_X d (ky_count v) (ky_params v) (ky_size v) (ky_tokens v)) (hn : kj_YN d (ky_need v)) {i : Nat} (hi : i < kj_c d) (sp : kj_Sp d w N0 i) (hg : ∀ j, (kj_nd d i).testBit j = true → ¬ (kj_g d i).testBit j = true → ky_good v j = kj_bb w j ∧ (w.testBit j = true → kj_yn d (ky_number v) N0 j))
    (K : ∀ dn go nu st : Nat → Int32, (∀ j, j < 4 → (kj_g d i).testBit j = true → dn j = 1 ∧ go j = kj_bb w i) → (∀ j, ¬ (kj_g d i).testBit j = true → dn j = ky_done v j ∧ go j = ky_good v j) → (∀ q, ¬ kj_cell d (kj_g d i) q → nu q = ky_number v q) → (w.testBit i = true → ∀ q, q < 8 → kj_cell d (kj_g d i) q → nu q = nI (N0 q)) →
      post ((ky_count v), (ky_params v), (ky_size v), (ky_tokens v), (ky_need v), (dn), (go), (nu), (st))) : wpY_settle post v (nI i) (nI (kj_g d i)) := by
  have ok := h.1
  have hc := ok.1
  have hi4 : i < 4 := by omega
  have gS := kj_g_lt d hi4
  have L := kj_nd_lt ok i
  have ni : ky_need v (nI i).toNatClampNeg = nI (kj_nd d i) := by rw [kj_cl (by omega)]; exact hn i hi4
  have hSc : ∀ j, (kj_g d i).testBit j = true → j < kj_c d := fun j gj => kj_g_c ok hi gj
  have em : ky_need v (nI i).toNatClampNeg &&& (nI (kj_g d i) ^^^ (-1)) = nI (kj_df (kj_nd d i) (kj_g d i)) := by rw [ni]; exact kj_dfI _ L _ gS
  have dm : ∀ j, j < 4 → ((kj_df (kj_nd d i) (kj_g d i)).testBit j = true ↔ (kj_nd d i).testBit j = true ∧ ¬ (kj_g d i).testBit j = true) := fun j hj => by
    rw [kj_dft _ L _ gS j hj, Bool.and_eq_true]
    cases (kj_g d i).testBit j <;> simp
  refine And.intro (vp_in_nI hi4 (by decide)) ?_
  refine kj_yoth (v := v) (kj_df_lt L) 1 (fun j => ¬ ky_good v j = 0) (fun e => absurd e (by decide)) (fun _ j hj => Iff.rfl) em (fun A => ?_) (fun A => ?_)
  · have may : ∀ j, (kj_nd d i).testBit j = true → ¬ (kj_g d i).testBit j = true → w.testBit j = true := fun j nj gj => by
      have hj : j < 4 := Nat.lt_of_lt_of_le (kj_nd_lt4 ok nj) hc
      have a := A j hj ((dm j hj).mpr ⟨nj, gj⟩)
      rw [(hg j nj gj).1] at a
      exact kj_bb_n.mp a
    have oN : w.testBit i = true → kj_OK d (kj_g d i) N0 N0 := fun wi => ⟨fun q _ cl => by
      have T := (sp.1 wi).2.1 (q / 2) cl.1 (q % 2) cl.2
      rw [show 2 * (q / 2) + q % 2 = q by omega] at T
      exact T, fun q _ => rfl⟩
    refine Exists.intro (4096 + 2) (kj_ysearch (N0 := N0) h gS hSc (fun a ga j nj gj => ?_) (fun nu st num o e1 e2 F least => ?_) (fun nu st e2 no => ?_) 4096 0 (ky_number v) (ky_stack v) (by decide) (fun q _ => rfl) (fun n2 _ lt => absurd lt (Nat.not_lt_zero _)))
    · have nj' := kj_g_nd ok (kj_g_sym ok ga) nj
      exact (hg j nj' gj).2 (may j nj' gj)
    · have wi : w.testBit i = true := by
        rcases Classical.em (w.testBit i = true) with z | z
        · exact z
        · rcases sp.2 z with ⟨j, nj, gj, wj⟩ | N
          · exact absurd (may j nj gj) wj
          · exact absurd F (N num (kj_OK_Ai ok hi o))
      have T := sp.1 wi
      have le : kj_V d (kj_g d i) N0 8 ≤ kj_V d (kj_g d i) num 8 := kj_V_le (fun q _ cl => by
        have t := T.2.2.2 num (kj_OK_Ai ok hi o) F (q / 2) cl.1 (q % 2) cl.2
        rw [show 2 * (q / 2) + q % 2 = q by omega] at t
        exact t)
      have ev : kj_V d (kj_g d i) N0 8 = kj_V d (kj_g d i) num 8 := by
        rcases Nat.lt_or_ge (kj_V d (kj_g d i) N0 8) (kj_V d (kj_g d i) num 8) with z | z
        · exact absurd T.2.2.1 (least N0 (oN wi) z)
        · exact Nat.le_antisymm le z
      have en : N0 = num := kj_OK_eq (oN wi) o ev (kj_cell8 ok hSc)
      refine kj_yset72 (v := ((ky_count v), (ky_params v), (ky_size v), (ky_tokens v), (ky_need v), (ky_done v), (ky_good v), (nu), (st))) gS (Or.inr rfl) (fun dn go a b => K dn go nu st (fun j hj gj => ?_) b e2 (fun _ q hq cl => ?_))
      · rw [kj_bb_t wi]; exact a j hj gj
      · rw [en]; exact e1 q hq cl
    · have wi : ¬ w.testBit i = true := fun z => no N0 (oN z) (sp.1 z).2.2.1
      refine kj_yset72 (v := ((ky_count v), (ky_params v), (ky_size v), (ky_tokens v), (ky_need v), (ky_done v), (ky_good v), (nu), (st))) gS (Or.inl rfl) (fun dn go a b => K dn go nu st (fun j hj gj => ?_) b e2 (fun z => absurd z wi))
      rw [kj_bb_f wi]; exact a j hj gj
  · obtain ⟨j, hj, mj, ng⟩ := A
    have q := (dm j hj).mp mj
    have g0 : ky_good v j = 0 := by
      rcases Classical.em (ky_good v j = 0) with z | z
      · exact z
      · exact absurd z ng
    have wj : ¬ w.testBit j = true := fun z => by
      rw [(hg j q.1 q.2).1, kj_bb_t z] at g0
      exact absurd g0 (by decide)
    have wi : ¬ w.testBit i = true := fun z => ((sp.1 z).1 j q.1).elim q.2 wj
    refine Exists.intro (0 + 1) (br_f (by decide) (br_t rfl ?_))
    refine kj_yset72 (v := v) gS (Or.inl rfl) (fun dn go a b => K dn go (ky_number v) (ky_stack v) (fun j hj gj => ?_) b (fun q _ => rfl) (fun z => absurd z wi))
    rw [kj_bb_f wi]; exact a j hj gj
end
section
/-! ===== Y: settleAll ===== -/
theorem kj_Sp_grp {d : kj_D} (ok : kj_ok d) {w : Nat} {N0 : Nat → Nat} (sp : ∀ i, i < kj_c d → kj_Sp d w N0 i) {i j : Nat} (hi : i < kj_c d) (gj : (kj_g d i).testBit j = true) (wi : w.testBit i = true) : w.testBit j = true := by
  have T := (sp i hi).1 wi
  have eg := kj_g_eq ok gj
  rcases Classical.em (w.testBit j = true) with z | z
  · exact z
  · rcases (sp j (kj_g_c ok hi gj)).2 z with ⟨a, na, ga, wa⟩ | N
    · rw [eg] at ga
      exact ((T.1 a (kj_g_nd ok (kj_g_sym ok gj) na)).elim ga wa).elim
    · refine absurd ?_ (N N0 ⟨?_, fun _ _ _ _ _ => rfl⟩)
      · unfold kj_Fs; rw [eg]; exact T.2.2.1
      · rw [eg]; exact T.2.1
theorem kj_bb_g {d : kj_D} (ok : kj_ok d) {w : Nat} {N0 : Nat → Nat} (sp : ∀ i, i < kj_c d → kj_Sp d w N0 i) {i j : Nat} (hi : i < kj_c d) (gj : (kj_g d i).testBit j = true) : kj_bb w i = kj_bb w j := by
  rcases Classical.em (w.testBit i = true) with z | z
  · rw [kj_bb_t z, kj_bb_t (kj_Sp_grp ok sp hi gj z)]
  · rw [kj_bb_f z, kj_bb_f (fun y => z (kj_Sp_grp ok sp (kj_g_c ok hi gj) (kj_g_sym ok gj) y))]
/-- what is done is told right -/
def kj_YI (d : kj_D) (w : Nat) (N0 : Nat → Nat) (dn go nu : Nat → Int32) : Prop := (∀ j, j < kj_c d → ¬ dn j = 0 → go j = kj_bb w j ∧ (w.testBit j = true → kj_yn d nu N0 j)) ∧ ∀ j, kj_c d ≤ j → j < 4 → go j = 0
theorem kj_ysa52 {post : SY → Prop} {v : SY} {d : kj_D} {w : Nat} {N0 : Nat → Nat} (h : kj_X d (ky_count v) (ky_params v) (ky_size v) (ky_tokens v)) (hn : kj_YN d (ky_need v)) (sp : ∀ i, i < kj_c d → kj_Sp d w N0 i) {p : Nat} {J : Int32 → Int32 → (Nat → Int32) → (Nat → Int32) → (Nat → Int32) → (Nat → Int32) → (Nat → Int32) → (Nat → Int32) → (Nat → Int32) → (Nat → Int32) → Prop}
    (K : ∀ dn go nu st : Nat → Int32, kj_YI d w N0 dn go nu → (∀ j, j < kj_c d → kj_ms d j ≤ p + 1 → ¬ dn j = 0) → J (nI (p + 1)) (ky_count v) (ky_params v) (ky_size v) (ky_tokens v) (ky_need v) (dn) (go) (nu) (st)) :
    ∀ (m x : Nat) (dn go nu st : Nat → Int32), x + m = kj_c d → kj_YI d w N0 dn go nu → (∀ j, j < kj_c d → kj_ms d j ≤ p → ¬ dn j = 0) → (∀ j, j < x → kj_ms d j ≤ p + 1 → ¬ dn j = 0) → wY_settleAll_52 post J (nI p) (m + 1) (nI x) (ky_count v) (ky_params v) (ky_size v) (ky_tokens v) (ky_need v) (dn) (go) (nu) (st) := by
  have ok := h.1
  have hc := ok.1
  have cc := h.2.1
  intro m
  induction m with
  | zero =>
    intro x dn go nu st hx I P Q
    exact pk_le (kj_c d) x (fun _ => nm_r (nI_1 p) (K dn go nu st I (fun j hj => Q j (by omega)))) (fun z => by omega) cc rfl (by omega) (by omega)
  | succ m ih =>
    intro x dn go nu st hx I P Q
    have hx4 : x < 4 := by omega
    have hxc : x < kj_c d := by omega
    have gS := kj_g_lt d hx4
    have L := kj_nd_lt ok x
    have ix : vp_in (nI x) 4 := vp_in_nI hx4 (by decide)
    have cx : (nI x).toNatClampNeg = x := kj_cl (by omega)
    have ni : ky_need v (nI x).toNatClampNeg = nI (kj_nd d x) := by rw [cx]; exact hn x hx4
    have em : ky_need v (nI x).toNatClampNeg &&& (nI (kj_g d x) ^^^ (-1)) = nI (kj_df (kj_nd d x) (kj_g d x)) := by rw [ni]; exact kj_dfI _ L _ gS
    have dm : ∀ j, j < 4 → ((kj_df (kj_nd d x) (kj_g d x)).testBit j = true ↔ (kj_nd d x).testBit j = true ∧ ¬ (kj_g d x).testBit j = true) := fun j hj => by
      rw [kj_dft _ L _ gS j hj, Bool.and_eq_true]
      cases (kj_g d x).testBit j <;> simp
    have skip : (kj_ms d x ≤ p + 1 → ¬ dn x = 0) → wY_settleAll_52 post J (nI p) (m + 1) (nI (x + 1)) (ky_count v) (ky_params v) (ky_size v) (ky_tokens v) (ky_need v) (dn) (go) (nu) (st) := fun hs => ih (x + 1) dn go nu st (by omega) I P (fun j hj mj => by
      rcases Nat.lt_or_ge j x with y | y
      · exact Q j y mj
      · rw [show j = x by omega] at mj ⊢; exact hs mj)
    refine pk_le (kj_c d) x (fun z => by omega) (fun _ => ?_) cc rfl (by omega) (by omega)
    refine kj_ygrp (v := ((ky_count v), (ky_params v), (ky_size v), (ky_tokens v), (ky_need v), (dn), (go), (nu), (st))) ok hn hx4 ⟨ix, br_c (fun z => ⟨ix, ?_⟩) (fun z => nm_r (nI_1 x) (skip (fun _ => by rw [cx] at z; exact z)))⟩
    refine kj_yoth (v := ((ky_count v), (ky_params v), (ky_size v), (ky_tokens v), (ky_need v), (dn), (go), (nu), (st))) (kj_df_lt L) 0 (fun j => ¬ dn j = 0) (fun _ j hj => Iff.rfl) (fun e => absurd rfl e) em (fun A => br_f (by decide) ?_) (fun A => br_t rfl (nm_r (nI_1 x) (skip (fun mx => ?_))))
    · have dj : ∀ j, (kj_nd d x).testBit j = true → ¬ (kj_g d x).testBit j = true → ¬ dn j = 0 := fun j nj gj => by
        have hj : j < 4 := Nat.lt_of_lt_of_le (kj_nd_lt4 ok nj) hc
        exact A j hj ((dm j hj).mpr ⟨nj, gj⟩)
      refine kj_ysettle (v := ((ky_count v), (ky_params v), (ky_size v), (ky_tokens v), (ky_need v), (dn), (go), (nu), (st))) (d := d) (w := w) (N0 := N0) h hn hxc (sp x hxc) (fun j nj gj => I.1 j (kj_nd_lt4 ok nj) (dj j nj gj)) (fun dn' go' nu' st' a1 a2 a3 a4 => nm_r (nI_1 x) ?_)
      have mono : ∀ j, j < 4 → ¬ dn j = 0 → ¬ dn' j = 0 := fun j hj nd => by
        rcases Classical.em ((kj_g d x).testBit j = true) with g | g
        · rw [(a1 j hj g).1]; decide
        · rw [(a2 j g).1]; exact nd
      refine ih (x + 1) dn' go' nu' st' (by omega) ⟨fun j hj nd => ?_, fun j hj hj4 => ?_⟩ (fun j hj mj => mono j (by omega) (P j hj mj)) (fun j hj mj => ?_)
      · rcases Classical.em ((kj_g d x).testBit j = true) with g | g
        · refine ⟨(a1 j (by omega) g).2.trans (kj_bb_g ok sp hxc g), fun wj p' hp => ?_⟩
          have wx := kj_Sp_grp ok sp (kj_g_c ok hxc g) (kj_g_sym ok g) wj
          have cl := kj_cell_of ok g hp
          have q8 := kj_cell8 ok (fun j gj => kj_g_c ok hxc gj) _ cl
          exact ⟨a4 wx _ q8 cl, ((sp x hxc).1 wx).2.1 j g p' hp⟩
        · have q := I.1 j hj (by rw [(a2 j g).1] at nd; exact nd)
          refine ⟨(a2 j g).2.trans q.1, fun wj p' hp => ?_⟩
          rw [a3 _ (kj_cell_no ok g hp)]
          exact q.2 wj p' hp
      · have g : ¬ (kj_g d x).testBit j = true := fun z => by have := kj_g_c ok hxc z; omega
        exact (a2 j g).2.trans (I.2 j hj hj4)
      · rcases Nat.lt_or_ge j x with y | y
        · exact mono j (by omega) (Q j y mj)
        · rw [show j = x by omega, (a1 x hx4 (kj_g_self ok x)).1]; decide
    · obtain ⟨j, hj, mj, nj⟩ := A
      have q := (dm j hj).mp mj
      have lt := kj_ms_lt ok hx4 q.1 q.2
      exact absurd (P j (kj_nd_lt4 ok q.1) (by omega)) nj
theorem kj_ms_1 {d : kj_D} {i : Nat} (hi : i < 4) : 1 ≤ kj_ms d i := by
  have := kj_cn_lt (P := fun _ => false) (Q := fun j => decide (j = i) || (kj_nd d i).testBit j) (a := i) rfl (by rw [Bool.or_eq_true]; exact Or.inl (decide_eq_true rfl)) (N := 4) (fun _ _ z => absurd z (by decide)) hi
  have e : kj_ms d i = kj_cn (fun j => decide (j = i) || (kj_nd d i).testBit j) 4 := rfl
  omega
theorem kj_ysettleAll {post : SY → Prop} {v : SY} {d : kj_D} {w : Nat} {N0 : Nat → Nat} (h : kj_X d (ky_count v) (ky_params v) (ky_size v) (ky_tokens v)) (sp : ∀ i, i < kj_c d → kj_Sp d w N0 i)
    (K : ∀ na dn go nu st : Nat → Int32, kj_YN d na → (∀ j, j < kj_c d → go j = kj_bb w j ∧ (w.testBit j = true → kj_yn d nu N0 j)) → (∀ j, kj_c d ≤ j → j < 4 → go j = 0) → post ((ky_count v), (ky_params v), (ky_size v), (ky_tokens v), (na), (dn), (go), (nu), (st))) : wpY_settleAll post v := by
  have ok := h.1
  have hc := ok.1
  have cc := h.2.1
  unfold wpY_settleAll
  refine kj_yfind (v := v) h (fun na hn => ⟨5, ?_⟩)
  have pass : ∀ (m p : Nat) (dn go nu st : Nat → Int32), p + m = 4 → kj_YI d w N0 dn go nu → (∀ j, j < kj_c d → kj_ms d j ≤ p → ¬ dn j = 0) → wY_settleAll_45 post (m + 1) (nI p) (ky_count v) (ky_params v) (ky_size v) (ky_tokens v) (na) (dn) (go) (nu) (st) := by
    intro m
    induction m with
    | zero =>
      intro p dn go nu st hp I P
      refine pk_le 4 p (fun _ => K na dn go nu st hn (fun j hj => I.1 j hj (P j hj ?_)) I.2) (fun z => by omega) rfl rfl (by decide) (by omega)
      have := kj_ms_4 d j
      omega
    | succ m ih =>
      intro p dn go nu st hp I P
      refine pk_le 4 p (fun z => by omega) (fun _ => ⟨kj_c d + 1, ?_⟩) rfl rfl (by decide) (by omega)
      exact kj_ysa52 (v := ((ky_count v), (ky_params v), (ky_size v), (ky_tokens v), (na), (ky_done v), (ky_good v), (ky_number v), (ky_stack v))) (d := d) h hn sp (fun dn' go' nu' st' I' P' => ih (p + 1) dn' go' nu' st' (by omega) I' P') (kj_c d) 0 dn go nu st (Nat.zero_add _) I P (fun j hj => absurd hj (Nat.not_lt_zero j))
  have init : ∀ (m x : Nat) (dn go : Nat → Int32), x + m = 4 → (∀ j, j < x → j < kj_c d → dn j = 0) → (∀ j, j < x → go j = 0) → wY_settleAll_6 post (ky_count v) (m + 1) (nI x) (ky_params v) (ky_size v) (ky_tokens v) (na) (dn) (go) (ky_number v) (ky_stack v) := by
    intro m
    induction m with
    | zero =>
      intro x dn go hx H1 H2
      refine pk_le 4 x (fun _ => ⟨5, pass 4 0 dn go (ky_number v) (ky_stack v) (by decide) ⟨fun j hj nd => absurd (H1 j (by omega) hj) nd, fun j _ hj => H2 j (by omega)⟩ (fun j hj mj => ?_)⟩) (fun z => by omega) rfl rfl (by decide) (by omega)
      have := kj_ms_1 (d := d) (i := j) (by omega)
      omega
    | succ m ih =>
      intro x dn go hx H1 H2
      have ix : vp_in (nI x) 4 := vp_in_nI (by omega) (by decide)
      have cx : (nI x).toNatClampNeg = x := kj_cl (by omega)
      have step : ∀ z : Int32, (z = 0 ∨ z = 1) → (x < kj_c d → z = 0) → wY_settleAll_29 post (wY_settleAll_6 post (ky_count v) (m + 1)) (nI x) z (nI x) (ky_count v) (ky_params v) (ky_size v) (ky_tokens v) (na) (dn) (go) (ky_number v) (ky_stack v) := fun z hz hz0 => by
        refine And.intro ix (nm_r (e' := upd dn x z) (by rw [cx, kj_nz hz]) ⟨ix, nm_r (e' := upd go x 0) (by rw [cx, kj_nt0]) (nm_r (nI_1 x) (ih (x + 1) (upd dn x z) (upd go x 0) (by omega) (fun j hj hjc => ?_) (fun j hj => ?_)))⟩)
        · rcases Nat.lt_or_ge j x with y | y
          · rw [pk_un (by omega)]; exact H1 j y hjc
          · rw [show j = x by omega] at hjc ⊢; rw [pk_us]; exact hz0 hjc
        · rcases Nat.lt_or_ge j x with y | y
          · rw [pk_un (by omega)]; exact H2 j y
          · rw [show j = x by omega, pk_us]
      refine pk_le 4 x (fun z => by omega) (fun _ => ?_) rfl rfl (by decide) (by omega)
      exact pk_lt x (kj_c d) (fun z => step 0 (Or.inl rfl) (fun _ => rfl)) (fun z => step 1 (Or.inr rfl) (fun y => by omega)) rfl cc (by omega) (by omega)
  exact init 4 0 (ky_done v) (ky_good v) (by decide) (fun j hj => absurd hj (Nat.not_lt_zero j)) (fun j hj => absurd hj (Nat.not_lt_zero j))
end
section
/-! ===== Y: settleAll ends in any case (used where X does not judge) ===== -/
def kj_rd (nu : Nat → Int32) : Nat → Nat := fun q => (nu q).toNatClampNeg
theorem kj_rd_of {d : kj_D} {nu : Nat → Int32} {num : Nat → Nat} {j : Nat} (h : kj_yn d nu num j) : kj_yn d nu (kj_rd nu) j := fun p hp => by
  have q := h p hp
  have e : kj_rd nu (2 * j + p) = num (2 * j + p) := by show (nu (2 * j + p)).toNatClampNeg = _; rw [q.1]; exact kj_cl (by omega)
  rw [e]; exact q
theorem kj_ysettleW {post : SY → Prop} {v : SY} {d : kj_D} (h : kj_X d (ky_count v) (ky_params v) (ky_size v) (ky_tokens v)) (hn : kj_YN d (ky_need v)) {i : Nat} (hi : i < kj_c d) (hg : ∀ j, (kj_nd d i).testBit j = true → ¬ (kj_g d i).testBit j = true → ¬ ky_good v j = 0 → kj_yn d (ky_number v) (kj_rd (ky_number v)) j)
    (K : ∀ (x3 : Int32) (dn go nu st : Nat → Int32), (∀ j, j < 4 → (kj_g d i).testBit j = true → dn j = 1 ∧ go j = x3) → (∀ j, ¬ (kj_g d i).testBit j = true → dn j = ky_done v j ∧ go j = ky_good v j) → (∀ q, ¬ kj_cell d (kj_g d i) q → nu q = ky_number v q) → (¬ x3 = 0 → ∀ j, (kj_g d i).testBit j = true → kj_yn d nu (kj_rd nu) j) →
      post ((ky_count v), (ky_params v), (ky_size v), (ky_tokens v), (ky_need v), (dn), (go), (nu), (st))) : wpY_settle post v (nI i) (nI (kj_g d i)) := by
  have ok := h.1
  have hc := ok.1
  have hi4 : i < 4 := by omega
  have gS := kj_g_lt d hi4
  have L := kj_nd_lt ok i
  have ni : ky_need v (nI i).toNatClampNeg = nI (kj_nd d i) := by rw [kj_cl (by omega)]; exact hn i hi4
  have hSc : ∀ j, (kj_g d i).testBit j = true → j < kj_c d := fun j gj => kj_g_c ok hi gj
  have em : ky_need v (nI i).toNatClampNeg &&& (nI (kj_g d i) ^^^ (-1)) = nI (kj_df (kj_nd d i) (kj_g d i)) := by rw [ni]; exact kj_dfI _ L _ gS
  have dm : ∀ j, j < 4 → ((kj_df (kj_nd d i) (kj_g d i)).testBit j = true ↔ (kj_nd d i).testBit j = true ∧ ¬ (kj_g d i).testBit j = true) := fun j hj => by
    rw [kj_dft _ L _ gS j hj, Bool.and_eq_true]
    cases (kj_g d i).testBit j <;> simp
  refine And.intro (vp_in_nI hi4 (by decide)) ?_
  refine kj_yoth (v := v) (kj_df_lt L) 1 (fun j => ¬ ky_good v j = 0) (fun e => absurd e (by decide)) (fun _ j hj => Iff.rfl) em (fun A => ?_) (fun A => ?_)
  · refine Exists.intro (4096 + 2) (kj_ysearch (N0 := kj_rd (ky_number v)) h gS hSc (fun a ga j nj gj => ?_) (fun nu st num o e1 e2 F least => ?_) (fun nu st e2 no => ?_) 4096 0 (ky_number v) (ky_stack v) (by decide) (fun q _ => rfl) (fun n2 _ lt => absurd lt (Nat.not_lt_zero _)))
    · have nj' := kj_g_nd ok (kj_g_sym ok ga) nj
      have hj : j < 4 := Nat.lt_of_lt_of_le (kj_nd_lt4 ok nj') hc
      exact hg j nj' gj (A j hj ((dm j hj).mpr ⟨nj', gj⟩))
    · refine kj_yset72 (v := ((ky_count v), (ky_params v), (ky_size v), (ky_tokens v), (ky_need v), (ky_done v), (ky_good v), (nu), (st))) gS (Or.inr rfl) (fun dn go a b => K 1 dn go nu st a b e2 (fun _ j gj => kj_rd_of (num := num) (fun p hp => ?_)))
      have cl := kj_cell_of ok gj hp
      have q8 := kj_cell8 ok hSc _ cl
      exact ⟨e1 _ q8 cl, o.1 _ q8 cl⟩
    · exact kj_yset72 (v := ((ky_count v), (ky_params v), (ky_size v), (ky_tokens v), (ky_need v), (ky_done v), (ky_good v), (nu), (st))) gS (Or.inl rfl) (fun dn go a b => K 0 dn go nu st a b e2 (fun z => absurd rfl z))
  · refine Exists.intro (0 + 1) (br_f (by decide) (br_t rfl ?_))
    exact kj_yset72 (v := v) gS (Or.inl rfl) (fun dn go a b => K 0 dn go (ky_number v) (ky_stack v) a b (fun q _ => rfl) (fun z => absurd rfl z))
def kj_YW (d : kj_D) (dn go nu : Nat → Int32) : Prop := (∀ j, j < kj_c d → ¬ dn j = 0 → ¬ go j = 0 → kj_yn d nu (kj_rd nu) j) ∧ ∀ j, kj_c d ≤ j → j < 4 → go j = 0
theorem kj_ysa52W {post : SY → Prop} {v : SY} {d : kj_D} (h : kj_X d (ky_count v) (ky_params v) (ky_size v) (ky_tokens v)) (hn : kj_YN d (ky_need v)) {p : Nat} {J : Int32 → Int32 → (Nat → Int32) → (Nat → Int32) → (Nat → Int32) → (Nat → Int32) → (Nat → Int32) → (Nat → Int32) → (Nat → Int32) → (Nat → Int32) → Prop}
    (K : ∀ dn go nu st : Nat → Int32, kj_YW d dn go nu → J (nI (p + 1)) (ky_count v) (ky_params v) (ky_size v) (ky_tokens v) (ky_need v) (dn) (go) (nu) (st)) :
    ∀ (m x : Nat) (dn go nu st : Nat → Int32), x + m = kj_c d → kj_YW d dn go nu → wY_settleAll_52 post J (nI p) (m + 1) (nI x) (ky_count v) (ky_params v) (ky_size v) (ky_tokens v) (ky_need v) (dn) (go) (nu) (st) := by
  have ok := h.1
  have hc := ok.1
  have cc := h.2.1
  intro m
  induction m with
  | zero =>
    intro x dn go nu st hx I
    exact pk_le (kj_c d) x (fun _ => nm_r (nI_1 p) (K dn go nu st I)) (fun z => by omega) cc rfl (by omega) (by omega)
  | succ m ih =>
    intro x dn go nu st hx I
    have hx4 : x < 4 := by omega
    have hxc : x < kj_c d := by omega
    have gS := kj_g_lt d hx4
    have L := kj_nd_lt ok x
    have ix : vp_in (nI x) 4 := vp_in_nI hx4 (by decide)
    have cx : (nI x).toNatClampNeg = x := kj_cl (by omega)
    have ni : ky_need v (nI x).toNatClampNeg = nI (kj_nd d x) := by rw [cx]; exact hn x hx4
    have em : ky_need v (nI x).toNatClampNeg &&& (nI (kj_g d x) ^^^ (-1)) = nI (kj_df (kj_nd d x) (kj_g d x)) := by rw [ni]; exact kj_dfI _ L _ gS
    have dm : ∀ j, j < 4 → ((kj_df (kj_nd d x) (kj_g d x)).testBit j = true ↔ (kj_nd d x).testBit j = true ∧ ¬ (kj_g d x).testBit j = true) := fun j hj => by
      rw [kj_dft _ L _ gS j hj, Bool.and_eq_true]
      cases (kj_g d x).testBit j <;> simp
    have skip := ih (x + 1) dn go nu st (by omega) I
    refine pk_le (kj_c d) x (fun z => by omega) (fun _ => ?_) cc rfl (by omega) (by omega)
    refine kj_ygrp (v := ((ky_count v), (ky_params v), (ky_size v), (ky_tokens v), (ky_need v), (dn), (go), (nu), (st))) ok hn hx4 ⟨ix, br_c (fun z => ⟨ix, ?_⟩) (fun z => nm_r (nI_1 x) skip)⟩
    refine kj_yoth (v := ((ky_count v), (ky_params v), (ky_size v), (ky_tokens v), (ky_need v), (dn), (go), (nu), (st))) (kj_df_lt L) 0 (fun j => ¬ dn j = 0) (fun _ j hj => Iff.rfl) (fun e => absurd rfl e) em (fun A => br_f (by decide) ?_) (fun A => br_t rfl (nm_r (nI_1 x) skip))
    have dj : ∀ j, (kj_nd d x).testBit j = true → ¬ (kj_g d x).testBit j = true → ¬ dn j = 0 := fun j nj gj => by
      have hj : j < 4 := Nat.lt_of_lt_of_le (kj_nd_lt4 ok nj) hc
      exact A j hj ((dm j hj).mpr ⟨nj, gj⟩)
    refine kj_ysettleW (v := ((ky_count v), (ky_params v), (ky_size v), (ky_tokens v), (ky_need v), (dn), (go), (nu), (st))) (d := d) h hn hxc (fun j nj gj g0 => I.1 j (kj_nd_lt4 ok nj) (dj j nj gj) g0) (fun x3 dn' go' nu' st' a1 a2 a3 a4 => nm_r (nI_1 x) ?_)
    refine ih (x + 1) dn' go' nu' st' (by omega) ⟨fun j hj nd g0 => ?_, fun j hj hj4 => ?_⟩
    · rcases Classical.em ((kj_g d x).testBit j = true) with g | g
      · rw [(a1 j (by omega) g).2] at g0
        exact a4 g0 j g
      · rw [(a2 j g).1] at nd
        rw [(a2 j g).2] at g0
        have q := I.1 j hj nd g0
        refine kj_rd_of (num := kj_rd nu) (fun p' hp => ?_)
        rw [a3 _ (kj_cell_no ok g hp)]
        exact q p' hp
    · have g : ¬ (kj_g d x).testBit j = true := fun z => by have := kj_g_c ok hxc z; omega
      exact (a2 j g).2.trans (I.2 j hj hj4)
theorem kj_ysettleAllW {post : SY → Prop} {v : SY} {d : kj_D} (h : kj_X d (ky_count v) (ky_params v) (ky_size v) (ky_tokens v))
    (K : ∀ na dn go nu st : Nat → Int32, (∀ j, kj_c d ≤ j → j < 4 → go j = 0) → post ((ky_count v), (ky_params v), (ky_size v), (ky_tokens v), (na), (dn), (go), (nu), (st))) : wpY_settleAll post v := by
  have ok := h.1
  have hc := ok.1
  have cc := h.2.1
  unfold wpY_settleAll
  refine kj_yfind (v := v) h (fun na hn => ⟨5, ?_⟩)
  have pass : ∀ (m p : Nat) (dn go nu st : Nat → Int32), p + m = 4 → kj_YW d dn go nu → wY_settleAll_45 post (m + 1) (nI p) (ky_count v) (ky_params v) (ky_size v) (ky_tokens v) (na) (dn) (go) (nu) (st) := by
    intro m
    induction m with
    | zero =>
      intro p dn go nu st hp I
      exact pk_le 4 p (fun _ => K na dn go nu st I.2) (fun z => by omega) rfl rfl (by decide) (by omega)
    | succ m ih =>
      intro p dn go nu st hp I
      refine pk_le 4 p (fun z => by omega) (fun _ => ⟨kj_c d + 1, ?_⟩) rfl rfl (by decide) (by omega)
      exact kj_ysa52W (v := ((ky_count v), (ky_params v), (ky_size v), (ky_tokens v), (na), (ky_done v), (ky_good v), (ky_number v), (ky_stack v))) (d := d) h hn (fun dn' go' nu' st' I' => ih (p + 1) dn' go' nu' st' (by omega) I') (kj_c d) 0 dn go nu st (Nat.zero_add _) I
  have init : ∀ (m x : Nat) (dn go : Nat → Int32), x + m = 4 → (∀ j, j < x → j < kj_c d → dn j = 0) → (∀ j, j < x → go j = 0) → wY_settleAll_6 post (ky_count v) (m + 1) (nI x) (ky_params v) (ky_size v) (ky_tokens v) (na) (dn) (go) (ky_number v) (ky_stack v) := by
    intro m
    induction m with
    | zero =>
      intro x dn go hx H1 H2
      exact pk_le 4 x (fun _ => ⟨5, pass 4 0 dn go (ky_number v) (ky_stack v) (by decide) ⟨fun j hj nd => absurd (H1 j (by omega) hj) nd, fun j _ hj => H2 j (by omega)⟩⟩) (fun z => by omega) rfl rfl (by decide) (by omega)
    | succ m ih =>
      intro x dn go hx H1 H2
      have ix : vp_in (nI x) 4 := vp_in_nI (by omega) (by decide)
      have cx : (nI x).toNatClampNeg = x := kj_cl (by omega)
      have step : ∀ z : Int32, (z = 0 ∨ z = 1) → (x < kj_c d → z = 0) → wY_settleAll_29 post (wY_settleAll_6 post (ky_count v) (m + 1)) (nI x) z (nI x) (ky_count v) (ky_params v) (ky_size v) (ky_tokens v) (na) (dn) (go) (ky_number v) (ky_stack v) := fun z hz hz0 => by
        refine And.intro ix (nm_r (e' := upd dn x z) (by rw [cx, kj_nz hz]) ⟨ix, nm_r (e' := upd go x 0) (by rw [cx, kj_nt0]) (nm_r (nI_1 x) (ih (x + 1) (upd dn x z) (upd go x 0) (by omega) (fun j hj hjc => ?_) (fun j hj => ?_)))⟩)
        · rcases Nat.lt_or_ge j x with y | y
          · rw [pk_un (by omega)]; exact H1 j y hjc
          · rw [show j = x by omega] at hjc ⊢; rw [pk_us]; exact hz0 hjc
        · rcases Nat.lt_or_ge j x with y | y
          · rw [pk_un (by omega)]; exact H2 j y
          · rw [show j = x by omega, pk_us]
      refine pk_le 4 x (fun z => by omega) (fun _ => ?_) rfl rfl (by decide) (by omega)
      exact pk_lt x (kj_c d) (fun z => step 0 (Or.inl rfl) (fun _ => rfl)) (fun z => step 1 (Or.inr rfl) (fun y => by omega)) rfl cc (by omega) (by omega)
  exact init 4 0 (ky_done v) (ky_good v) (by decide) (fun j hj => absurd hj (Nat.not_lt_zero j)) (fun j hj => absurd hj (Nat.not_lt_zero j))
end
section
/-! ===== the relation, and the plain calls ===== -/
/-- both sides hold the same declared data d; what X has judged is right for d -/
def i_Rel (k : Nat) (u : SX) (v : SY) : Prop := ∃ d : kj_D, (kj_X d (kx_count u) (kx_arity u) (kx_sizes u) (kx_tokens u)) ∧ kx_all u = nI (kj_sum (kj_ar d) (kj_c d)) ∧ (kj_X d (ky_count v) (ky_params v) (ky_size v) (ky_tokens v)) ∧ (¬ kx_judged u = 0 → kj_JD d (kx_need u) (kx_wellSet u) (kx_settled u) (kx_finished u))
theorem kj_mk (k : Nat) (u : SX) (v : SY) (d : kj_D) (h1 : kj_X d (kx_count u) (kx_arity u) (kx_sizes u) (kx_tokens u)) (h2 : kx_all u = nI (kj_sum (kj_ar d) (kj_c d))) (h3 : kj_X d (ky_count v) (ky_params v) (ky_size v) (ky_tokens v)) (h4 : ¬ kx_judged u = 0 → kj_JD d (kx_need u) (kx_wellSet u) (kx_settled u) (kx_finished u)) : i_Rel k u v := ⟨d, h1, h2, h3, h4⟩
theorem i_up {k : Nat} {u : SX} {v : SY} (h : i_Rel k u v) : i_Rel (k + 4) u v := h
def kj_d0 : kj_D := (0, fun _ => 0, fun _ => 0, fun _ => 0)
theorem kj_d0_ok : kj_ok kj_d0 := ⟨by decide, fun _ => by show 0 ≤ 2; decide, fun _ => by show 0 ≤ 20; decide, fun _ => by show 0 ≤ 10; decide, by decide, fun i hi => absurd hi (Nat.not_lt_zero i)⟩
theorem i_vc0 : wpX_init (fun u => wpY_init (fun v => i_Rel 0 u v)) :=
  kj_mk 0 (0, 0, 0, 0, 0, 0, (fun _ => 0), (fun _ => 0), (fun _ => 0), (fun _ => 0), (fun _ => 0), (fun _ => 0), (fun _ => 0), (fun _ => 0), (fun _ => 0), (fun _ => 0), (fun _ => 0), (fun _ => 0), (fun _ => 0), (fun _ => 0), (fun _ => 0), (fun _ => 0), (fun _ => 0)) (0, (fun _ => 0), (fun _ => 0), (fun _ => 0), (fun _ => 0), (fun _ => 0), (fun _ => 0), (fun _ => 0), (fun _ => 0)) kj_d0
    ⟨kj_d0_ok, rfl, fun _ => rfl, fun _ => rfl, fun _ => rfl⟩ rfl ⟨kj_d0_ok, rfl, fun _ => rfl, fun _ => rfl, fun _ => rfl⟩ (fun z => absurd rfl z)
theorem kj_sum_up {f : Nat → Nat} {c x : Nat} : ∀ k, k ≤ c → kj_sum (kj_up f c x) k = kj_sum f k
  | 0, _ => rfl
  | k + 1, h => by
    show kj_sum (kj_up f c x) k + kj_up f c x k = kj_sum f k + f k
    rw [kj_sum_up k (by omega), kj_un (by omega)]
/-- one more type -/
def kj_dd (d : kj_D) (q : Nat) : kj_D := (kj_c d + 1, kj_up (kj_ar d) (kj_c d) q, kj_up (kj_sz d) (kj_c d) 0, kj_tk d)
theorem kj_dd_sum (d : kj_D) (q : Nat) : kj_sum (kj_ar (kj_dd d q)) (kj_c (kj_dd d q)) = kj_sum (kj_ar d) (kj_c d) + q := by
  show kj_sum (kj_up (kj_ar d) (kj_c d) q) (kj_c d) + kj_up (kj_ar d) (kj_c d) q (kj_c d) = _
  rw [kj_sum_up _ (Nat.le_refl _), kj_us]
theorem kj_up_le {f : Nat → Nat} {k x b : Nat} (h : ∀ i, f i ≤ b) (hx : x ≤ b) (i : Nat) : kj_up f k x i ≤ b := by
  rcases Nat.decEq i k with z | z
  · rw [kj_un z]; exact h i
  · rw [z, kj_us]; exact hx
theorem kj_dd_ok {d : kj_D} (ok : kj_ok d) {q : Nat} (hq : q ≤ 2) (hc : kj_c d < 4) (hs : kj_sum (kj_ar d) (kj_c d) + q ≤ 6) : kj_ok (kj_dd d q) := by
  refine ⟨hc, kj_up_le ok.2.1 hq, kj_up_le ok.2.2.1 (by decide), ok.2.2.2.1, by rw [kj_dd_sum]; exact hs, fun i hi k hk => ?_⟩
  have hi' : i < kj_c d + 1 := hi
  have hk' : k < kj_up (kj_sz d) (kj_c d) 0 i := hk
  rcases Nat.lt_or_ge i (kj_c d) with z | z
  · rw [kj_un (by omega)] at hk'
    have o := ok.2.2.2.2.2 i z k hk'
    refine And.intro (fun y => ?_) (fun y => Nat.lt_succ_of_lt (o.2 y))
    show kj_t d i k ≤ kj_up (kj_ar d) (kj_c d) q i
    rw [kj_un (by omega)]
    exact o.1 y
  · rw [show i = kj_c d by omega, kj_us] at hk'
    omega
theorem kj_ydecl15 {post : Int32 → SY → Prop} {v : SY} {d : kj_D} (h : kj_X d (ky_count v) (ky_params v) (ky_size v) (ky_tokens v)) {q : Nat} (hq : q ≤ 2) (K2 : (4 ≤ kj_c d ∨ 6 < kj_sum (kj_ar d) (kj_c d) + q) → post (-2) v)
    (K1 : kj_c d < 4 → kj_sum (kj_ar d) (kj_c d) + q ≤ 6 → post (nI (kj_c d)) ((nI (kj_c d + 1)), (upd (ky_params v) (kj_c d) (nI q)), (upd (ky_size v) (kj_c d) (nI 0)), (ky_tokens v), (ky_need v), (ky_done v), (ky_good v), (ky_number v), (ky_stack v))) :
    ∃ n15, wY_declare_15 post (nI q) (ky_count v) (ky_params v) (ky_size v) (ky_tokens v) (ky_need v) (ky_done v) (ky_good v) (ky_number v) (ky_stack v) n15 (nI q) 0 := by
  have ok := h.1
  have hc := ok.1
  have cc := h.2.1
  have s6 := ok.2.2.2.2.1
  have ccl : (ky_count v).toNatClampNeg = kj_c d := by rw [cc]; exact kj_cl (by omega)
  have sle : ∀ k, kj_sum (kj_ar d) k ≤ 2 * k := fun k => by
    induction k with
    | zero => exact Nat.le_refl _
    | succ k ih =>
      have := ok.2.1 k
      show kj_sum (kj_ar d) k + kj_ar d k ≤ _
      omega
  have key : ∀ m x, x + m = kj_c d → wY_declare_15 post (nI q) (ky_count v) (ky_params v) (ky_size v) (ky_tokens v) (ky_need v) (ky_done v) (ky_good v) (ky_number v) (ky_stack v) (m + 1) (nI (q + kj_sum (kj_ar d) x)) (nI x) := by
    intro m
    induction m with
    | zero =>
      intro x hx
      have ex : x = kj_c d := by omega
      subst ex
      refine pk_le (kj_c d) (kj_c d) (fun _ => ?_) (fun z => by omega) cc rfl (by omega) (by omega)
      refine pk_le 4 (kj_c d) (fun z => K2 (Or.inl z)) (fun z => ?_) rfl cc (by decide) (by omega)
      refine pk_le (q + kj_sum (kj_ar d) (kj_c d)) 6 (fun y => ⟨kj_in cc z (by decide), nm_r (e' := upd (ky_params v) (kj_c d) (nI q)) (by rw [ccl]) ⟨kj_in cc z (by decide), nm_r (e' := upd (ky_size v) (kj_c d) (nI 0)) (by rw [ccl]; rfl) (nm_r (e' := nI (kj_c d + 1)) (by rw [cc]; exact nI_1 _) ?_)⟩⟩) (fun y => K2 (Or.inr (by omega))) rfl rfl (by omega) (by decide)
      have k1 := K1 z (by omega)
      rw [← nI_pred] at k1
      exact k1
    | succ m ih =>
      intro x hx
      have px : ky_params v (nI x).toNatClampNeg = nI (kj_ar d x) := by rw [kj_cl (by omega)]; exact h.2.2.1 x
      refine pk_le (kj_c d) x (fun z => by omega) (fun _ => ⟨vp_in_nI (by omega) (by decide), nm_r (e' := nI (q + kj_sum (kj_ar d) (x + 1))) ?_ (nm_r (nI_1 x) (ih (x + 1) (by omega)))⟩) cc rfl (by omega) (by omega)
      rw [px, nI_add]
      exact congrArg nI (Nat.add_assoc _ _ _)
  exact ⟨kj_c d + 1, key (kj_c d) 0 (by omega)⟩
theorem i_vc_declare {k : Nat} {u : SX} {v : SY} (I : i_Rel k u v) (hk : k + 4 ≤ 2048) (v1 : Int32) : wpX_declare (fun r u' => wpY_declare (fun r' v' => r' = r ∧ i_Rel (k + 4) u' v') v v1) u v1 := by
  have I0 := I
  obtain ⟨d, hX, ha, hY, hJ⟩ := I
  have ok := hX.1
  have hc := ok.1
  have s6 := ok.2.2.2.2.1
  have cc := hX.2.1
  have ccl : (kx_count u).toNatClampNeg = kj_c d := by rw [cc]; exact kj_cl (by omega)
  by_cases hn : v1 < 0
  · exact br_t hn (br_t hn ⟨rfl, I0⟩)
  · by_cases h2 : v1 ≤ 2
    · obtain ⟨q, hq, e⟩ := nI_of2 (x := v1) (M := 2) (n := 2) (by decide) hn h2
      subst e
      have eall : kx_all u + nI q = nI (kj_sum (kj_ar d) (kj_c d) + q) := by rw [ha, nI_add]
      refine br_f hn (br_t h2 ?_)
      refine pk_le 4 (kj_c d) (fun z => ?_) (fun z => ?_) rfl cc (by decide) (by omega)
      · exact br_f hn (br_t h2 (kj_ydecl15 hY hq (fun _ => ⟨rfl, I0⟩) (fun y => by omega)))
      · refine pk_le (kj_sum (kj_ar d) (kj_c d) + q) 6 (fun y => ⟨kj_in cc z (by decide), nm_r (e' := upd (kx_arity u) (kj_c d) (nI q)) ?_ ⟨kj_in cc z (by decide), nm_r (e' := upd (kx_sizes u) (kj_c d) (nI 0)) ?_ (nm_r eall (nm_r (e' := nI (kj_c d + 1)) ?_ ?_))⟩⟩) (fun y => ?_) eall rfl (by omega) (by decide)
        · rw [ccl, kj_nb (by omega)]
        · rw [ccl]; exact congrArg _ (kj_nb' (v := 0) (by decide))
        · exact (congrArg (· + 1) cc).trans (nI_1 _)
        · refine br_f hn (br_t h2 (kj_ydecl15 hY hq (fun no => by omega) (fun _ _ => ⟨(nI_pred (kj_c d)).symm, ?_⟩)))
          have ok' := kj_dd_ok ok hq z y
          exact kj_mk (k + 4) ((nI (kj_c d + 1)), (nI (kj_sum (kj_ar d) (kj_c d) + q)), (0), (kx_settledSet u), (kx_wellSet u), (kx_nodes u), (upd (kx_arity u) (kj_c d) (nI q)), (upd (kx_sizes u) (kj_c d) (nI 0)), (kx_tokens u), (kx_finished u), (kx_fieldCount u), (kx_need u), (kx_settled u), (kx_trial u), (kx_sort u), (kx_left u), (kx_right u), (kx_link u), (kx_typeNode u), (kx_parameterNode u), (kx_values u), (kx_todoA u), (kx_todoB u)) ((nI (kj_c d + 1)), (upd (ky_params v) (kj_c d) (nI q)), (upd (ky_size v) (kj_c d) (nI 0)), (ky_tokens v), (ky_need v), (ky_done v), (ky_good v), (ky_number v), (ky_stack v)) (kj_dd d q)
            ⟨ok', rfl, kj_upd hX.2.2.1 (kj_c d) q, kj_upd hX.2.2.2.1 (kj_c d) 0, hX.2.2.2.2⟩ (by rw [kj_dd_sum]) ⟨ok', rfl, kj_upd hY.2.2.1 (kj_c d) q, kj_upd hY.2.2.2.1 (kj_c d) 0, hY.2.2.2.2⟩ (fun x => absurd rfl x)
        · exact br_f hn (br_t h2 (kj_ydecl15 hY hq (fun _ => ⟨rfl, I0⟩) (fun _ x => by omega)))
    · exact br_f hn (br_f h2 (br_f hn (br_f h2 ⟨rfl, I0⟩)))
theorem i_vc_types {k : Nat} {u : SX} {v : SY} (I : i_Rel k u v) (hk : k + 4 ≤ 2048) : wpX_types (fun r => wpY_types (fun r' => r' = r ∧ i_Rel (k + 4) u v) v) u := by
  have I0 := I
  obtain ⟨d, hX, ha, hY, hJ⟩ := I
  exact And.intro (hY.2.1.trans hX.2.1.symm) I0
theorem i_vc_parameters {k : Nat} {u : SX} {v : SY} (I : i_Rel k u v) (hk : k + 4 ≤ 2048) (v1 : Int32) : wpX_parameters (fun r => wpY_parameters (fun r' => r' = r ∧ i_Rel (k + 4) u v) v v1) u v1 := by
  have I0 := I
  obtain ⟨d, hX, ha, hY, hJ⟩ := I
  have hc := hX.1.1
  unfold wpX_parameters
  refine kj_xdecl (u := u) hX v1 (fun i hi e => br_f (by decide) ⟨by rw [e]; exact vp_in_nI (by omega) (by decide), ?_⟩) (fun no => br_t rfl ?_)
  · unfold wpY_parameters
    refine kj_ydecl (v := v) hY v1 (fun i' hi' e' => br_f (by decide) ⟨by rw [e]; exact vp_in_nI (by omega) (by decide), ?_, I0⟩) (fun no => absurd e (no i hi))
    exact (hY.2.2.1 _).trans (hX.2.2.1 _).symm
  · unfold wpY_parameters
    exact kj_ydecl (v := v) hY v1 (fun i hi e => absurd e (no i hi)) (fun _ => br_t rfl ⟨rfl, I0⟩)
theorem i_vc_fields {k : Nat} {u : SX} {v : SY} (I : i_Rel k u v) (hk : k + 4 ≤ 2048) (v1 : Int32) : wpX_fields (fun r u' => wpY_fields (fun r' => r' = r ∧ i_Rel (k + 4) u' v) v v1) u v1 := by
  have I0 := I
  obtain ⟨d, hX, ha, hY, hJ⟩ := I
  have hc := hX.1.1
  refine kj_xfields hX v1 (fun no => kj_yfields hY v1 (fun _ => ⟨rfl, I0⟩) (fun i hi e => absurd e (no i hi))) (fun i hi e fc fi a1 a2 a3 a4 => kj_yfields hY v1 (fun no => absurd e (no i hi)) (fun i' hi' e' => ⟨?_, ?_⟩))
  · rw [e, nI_eq (by omega) (by omega)] at e'
    rw [e']
  · refine kj_mk (k + 4) ((kx_count u), (kx_all u), (kx_judged u), (kx_settledSet u), (kx_wellSet u), (kx_nodes u), (kx_arity u), (kx_sizes u), (kx_tokens u), (fi), (fc), (kx_need u), (kx_settled u), (kx_trial u), (kx_sort u), (kx_left u), (kx_right u), (kx_link u), (kx_typeNode u), (kx_parameterNode u), (kx_values u), (kx_todoA u), (kx_todoB u)) v d hX ha hY (fun z => ?_)
    have J := hJ z
    refine ⟨J.1, fun j hj => ?_, J.2.2⟩
    rcases Nat.decEq j i with x | x
    · exact (a4 j x).trans (J.2.1 j hj)
    · rw [x]; exact a3
theorem i_vc_clear {k : Nat} {u : SX} {v : SY} (I : i_Rel k u v) (hk : k + 4 ≤ 2048) : wpX_clear (fun u' => wpY_clear (fun v' => i_Rel (k + 4) u' v') v) u := by
  obtain ⟨d, hX, ha, hY, hJ⟩ := I
  have ok := hX.1
  have ok' : kj_ok (0, kj_ar d, kj_sz d, kj_tk d) := ⟨Nat.zero_le _, ok.2.1, ok.2.2.1, ok.2.2.2.1, Nat.zero_le _, fun i hi => absurd hi (Nat.not_lt_zero i)⟩
  exact kj_mk (k + 4) ((0), (0), (0), (kx_settledSet u), (kx_wellSet u), (kx_nodes u), (kx_arity u), (kx_sizes u), (kx_tokens u), (kx_finished u), (kx_fieldCount u), (kx_need u), (kx_settled u), (kx_trial u), (kx_sort u), (kx_left u), (kx_right u), (kx_link u), (kx_typeNode u), (kx_parameterNode u), (kx_values u), (kx_todoA u), (kx_todoB u)) ((0), (ky_params v), (ky_size v), (ky_tokens v), (ky_need v), (ky_done v), (ky_good v), (ky_number v), (ky_stack v)) (0, kj_ar d, kj_sz d, kj_tk d) ⟨ok', rfl, hX.2.2.1, hX.2.2.2.1, hX.2.2.2.2⟩ rfl ⟨ok', rfl, hY.2.2.1, hY.2.2.2.1, hY.2.2.2.2⟩ (fun z => absurd rfl z)
/-- one token less -/
def kj_db (d : kj_D) (i n : Nat) : kj_D := (kj_c d, kj_ar d, kj_up (kj_sz d) i n, kj_tk d)
theorem kj_db_ok {d : kj_D} (ok : kj_ok d) {i n : Nat} (hn : n ≤ kj_sz d i) : kj_ok (kj_db d i n) := by
  refine ⟨ok.1, ok.2.1, kj_up_le ok.2.2.1 (Nat.le_trans hn (ok.2.2.1 i)), ok.2.2.2.1, ok.2.2.2.2.1, fun j hj k hk => ?_⟩
  have hk' : k < kj_up (kj_sz d) i n j := hk
  refine ok.2.2.2.2.2 j hj k ?_
  rcases Nat.decEq j i with z | z
  · rw [kj_un z] at hk'; exact hk'
  · rw [z, kj_us] at hk'; rw [z]; omega
theorem i_vc_back {k : Nat} {u : SX} {v : SY} (I : i_Rel k u v) (hk : k + 4 ≤ 2048) (v1 : Int32) : wpX_back (fun r u' => wpY_back (fun r' v' => r' = r ∧ i_Rel (k + 4) u' v') v v1) u v1 := by
  have I0 := I
  obtain ⟨d, hX, ha, hY, hJ⟩ := I
  have ok := hX.1
  have hc := ok.1
  unfold wpX_back
  refine kj_xdecl (u := u) hX v1 (fun i hi e => br_f (by decide) ?_) (fun no => br_t rfl ?_)
  · subst e
    have h20 := ok.2.2.1 i
    have ini : vp_in (nI i) 4 := vp_in_nI (by omega) (by decide)
    have ci : (nI i).toNatClampNeg = i := kj_cl (by omega)
    have sx : kx_sizes u (nI i).toNatClampNeg = nI (kj_sz d i) := by rw [ci]; exact hX.2.2.2.1 i
    have sy : ky_size v (nI i).toNatClampNeg = nI (kj_sz d i) := by rw [ci]; exact hY.2.2.2.1 i
    refine ⟨ini, pk_eq (kj_sz d i) 0 (fun z => ?_) (fun z => ?_) sx rfl (by omega) (by decide)⟩
    · have s0 : ky_size v (nI i).toNatClampNeg = 0 := by rw [sy, z]; rfl
      unfold wpY_back
      refine kj_ydecl (v := v) hY (nI i) (fun i' hi' e' => br_f (by decide) ⟨ini, br_t s0 ⟨rfl, I0⟩⟩) (fun no => absurd rfl (no i hi))
    · have es : nI (kj_sz d i) - 1 = nI (kj_sz d i - 1) := pk_sub (b := 1) (by omega)
      have ux : upd (kx_sizes u) i (nI (kj_sz d i - 1)) (nI i).toNatClampNeg = nI (kj_sz d i - 1) := by rw [ci, pk_us]
      have uy : upd (ky_size v) i (nI (kj_sz d i - 1)) (nI i).toNatClampNeg = nI (kj_sz d i - 1) := by rw [ci, pk_us]
      have ex : nI i * 20 + upd (kx_sizes u) i (nI (kj_sz d i - 1)) (nI i).toNatClampNeg = nI (20 * i + (kj_sz d i - 1)) := by rw [ux, kj_20]
      have ey : 20 * nI i + upd (ky_size v) i (nI (kj_sz d i - 1)) (nI i).toNatClampNeg = nI (20 * i + (kj_sz d i - 1)) := by rw [uy, kj_20']
      have wx : upd (kx_sizes u) (nI i).toNatClampNeg (vp_nar .byte (kx_sizes u (nI i).toNatClampNeg - 1).toInt8.toInt32) = upd (kx_sizes u) i (nI (kj_sz d i - 1)) := by rw [sx, es, kj_nb (by omega), ci]
      have wy : upd (ky_size v) (nI i).toNatClampNeg (ky_size v (nI i).toNatClampNeg - 1) = upd (ky_size v) i (nI (kj_sz d i - 1)) := by rw [sy, es, ci]
      have n0 : ¬ ky_size v (nI i).toNatClampNeg = 0 := by rw [sy]; exact nI_ne0 (by omega) (by omega)
      refine ⟨ini, ini, nm_r wx ⟨ini, kj_in ex (by omega) (by decide), ?_⟩⟩
      unfold wpY_back
      refine kj_ydecl (v := v) hY (nI i) (fun i' hi' e' => br_f (by decide) ⟨ini, br_f n0 ⟨ini, ini, nm_r wy ⟨ini, kj_in ey (by omega) (by decide), ?_, ?_⟩⟩⟩) (fun no => absurd rfl (no i hi))
      · rw [ex, ey, kj_cl (by omega)]
        exact (hY.2.2.2.2 _).trans (hX.2.2.2.2 _).symm
      · have ok' := kj_db_ok ok (i := i) (n := kj_sz d i - 1) (by omega)
        exact kj_mk (k + 4) ((kx_count u), (kx_all u), (0), (kx_settledSet u), (kx_wellSet u), (kx_nodes u), (kx_arity u), (upd (kx_sizes u) i (nI (kj_sz d i - 1))), (kx_tokens u), (kx_finished u), (kx_fieldCount u), (kx_need u), (kx_settled u), (kx_trial u), (kx_sort u), (kx_left u), (kx_right u), (kx_link u), (kx_typeNode u), (kx_parameterNode u), (kx_values u), (kx_todoA u), (kx_todoB u)) ((ky_count v), (ky_params v), (upd (ky_size v) i (nI (kj_sz d i - 1))), (ky_tokens v), (ky_need v), (ky_done v), (ky_good v), (ky_number v), (ky_stack v)) (kj_db d i (kj_sz d i - 1)) ⟨ok', hX.2.1, hX.2.2.1, kj_upd hX.2.2.2.1 i _, hX.2.2.2.2⟩ ha ⟨ok', hY.2.1, hY.2.2.1, kj_upd hY.2.2.2.1 i _, hY.2.2.2.2⟩ (fun z => absurd rfl z)
  · unfold wpY_back
    exact kj_ydecl (v := v) hY v1 (fun i hi e => absurd e (no i hi)) (fun _ => br_t rfl ⟨rfl, I0⟩)
end
section
/-! ===== token ===== -/
/-- token t may be given to type i -/
def kj_gt (d : kj_D) (p0 p1 : Int32) (i t : Nat) : Prop := p0 = nI i ∧ i < kj_c d ∧ p1 = nI t ∧ t ≤ 10 ∧ (t = 1 ∨ t = 2 → t ≤ kj_ar d i) ∧ (7 ≤ t → t - 7 < kj_c d)
theorem kj_gt_i {d : kj_D} (ok : kj_ok d) {p0 p1 : Int32} {i t i' t' : Nat} (g : kj_gt d p0 p1 i t) (g' : kj_gt d p0 p1 i' t') : i' = i ∧ t' = t := by
  have hc := ok.1
  obtain ⟨a, b, c, e, f⟩ := g
  obtain ⟨a', b', c', e', f'⟩ := g'
  rw [a, nI_eq (by omega) (by omega)] at a'
  rw [c, nI_eq (by omega) (by omega)] at c'
  exact ⟨a'.symm, c'.symm⟩
theorem kj_xtokW {post : Int32 → SX → Prop} {u : SX} {d : kj_D} (h : kj_X d (kx_count u) (kx_arity u) (kx_sizes u) (kx_tokens u)) (p0 p1 : Int32) (Kb : (∀ i t, ¬ kj_gt d p0 p1 i t) → post (-1) u) (K : ∀ i t, kj_gt d p0 p1 i t → wX_token_69 post p0 p1 (kx_count u) (kx_all u) (kx_judged u) (kx_settledSet u) (kx_wellSet u) (kx_nodes u) (kx_arity u) (kx_sizes u) (kx_tokens u) (kx_finished u) (kx_fieldCount u) (kx_need u) (kx_settled u) (kx_trial u) (kx_sort u) (kx_left u) (kx_right u) (kx_link u) (kx_typeNode u) (kx_parameterNode u) (kx_values u) (kx_todoA u) (kx_todoB u)) : wpX_token post u p0 p1 := by
  have ok := h.1
  have hc := ok.1
  unfold wpX_token
  refine kj_xdecl (u := u) h p0 (fun i hi e => br_f (by decide) ?_) (fun no => br_t rfl (Kb (fun i t g => no i g.2.1 g.1)))
  subst e
  refine br_c (fun hn => Kb (fun j t g => ?_)) (fun hn => br_c (fun h10 => ?_) (fun h10 => Kb (fun j t g => h10 ?_)))
  · rw [g.2.2.1] at hn; exact nI_pos (by have := g.2.2.2.1; omega) hn
  · obtain ⟨t, ht, e⟩ := nI_of2 (x := p1) (M := 10) (n := 10) (by decide) hn h10
    subst e
    have ini : vp_in (nI i) 4 := vp_in_nI (by omega) (by decide)
    have ai : kx_arity u (nI i).toNatClampNeg = nI (kj_ar d i) := by rw [kj_cl (by omega)]; exact h.2.2.1 i
    have h2 := ok.2.1 i
    have uq : ∀ j t', kj_gt d (nI i) (nI t) j t' → j = i ∧ t' = t := fun j t' g => by
      have hj := g.2.1
      have ht' := g.2.2.2.1
      have a := g.1
      have c := g.2.2.1
      rw [nI_eq (by omega) (by omega)] at a c
      exact ⟨a.symm, c.symm⟩
    have k50 : (t = 1 ∨ t = 2 → t ≤ kj_ar d i) → wX_token_50 post (nI i) (nI t) (kx_count u) (kx_all u) (kx_judged u) (kx_settledSet u) (kx_wellSet u) (kx_nodes u) (kx_arity u) (kx_sizes u) (kx_tokens u) (kx_finished u) (kx_fieldCount u) (kx_need u) (kx_settled u) (kx_trial u) (kx_sort u) (kx_left u) (kx_right u) (kx_link u) (kx_typeNode u) (kx_parameterNode u) (kx_values u) (kx_todoA u) (kx_todoB u) := fun ha => by
      refine pk_lt t 7 (fun z => K i t ⟨rfl, hi, rfl, ht, ha, fun y => by omega⟩) (fun z => ?_) rfl rfl (by omega) (by decide)
      have e7 : nI t - 7 = nI (t - 7) := pk_sub z
      refine kj_xdecl (u := u) h (nI t - 7) (fun j hj e => br_f (by decide) (K i t ⟨rfl, hi, rfl, ht, ha, fun _ => ?_⟩)) (fun no => br_t rfl (Kb (fun j t' g => ?_)))
      · rw [e7, nI_eq (by omega) (by omega)] at e; omega
      · obtain ⟨x1, x2⟩ := uq j t' g
        subst x1 x2
        exact no (t' - 7) (g.2.2.2.2.2 z) e7
    have k30 : (t = 1 ∨ t = 2) → wX_token_30 post (nI i) (nI t) (kx_count u) (kx_all u) (kx_judged u) (kx_settledSet u) (kx_wellSet u) (kx_nodes u) (kx_arity u) (kx_sizes u) (kx_tokens u) (kx_finished u) (kx_fieldCount u) (kx_need u) (kx_settled u) (kx_trial u) (kx_sort u) (kx_left u) (kx_right u) (kx_link u) (kx_typeNode u) (kx_parameterNode u) (kx_values u) (kx_todoA u) (kx_todoB u) := fun ht2 => by
      refine br_f (by decide) (And.intro ini (pk_lt (kj_ar d i) t (fun z => Kb (fun j t' g => ?_)) (fun z => k50 (fun _ => z)) ai rfl (by omega) (by omega)))
      obtain ⟨x1, x2⟩ := uq j t' g
      subst x1 x2
      have := g.2.2.2.2.1 ht2
      omega
    refine pk_eq t 1 (fun z => k30 (Or.inl z)) (fun z => ?_) rfl rfl (by omega) (by decide)
    refine pk_eq t 2 (fun y => k30 (Or.inr y)) (fun y => ?_) rfl rfl (by omega) (by decide)
    exact br_t rfl (k50 (fun x => by omega))
  · rw [g.2.2.1]
    exact nI_le (b := 10) g.2.2.2.1 (by decide)
theorem kj_ytokW {post : Int32 → SY → Prop} {v : SY} {d : kj_D} (h : kj_X d (ky_count v) (ky_params v) (ky_size v) (ky_tokens v)) (p0 p1 : Int32) (Kb : (∀ i t, ¬ kj_gt d p0 p1 i t) → post (-1) v) (K : ∀ i t, kj_gt d p0 p1 i t → wY_token_59 post p0 p1 (ky_count v) (ky_params v) (ky_size v) (ky_tokens v) (ky_need v) (ky_done v) (ky_good v) (ky_number v) (ky_stack v)) : wpY_token post v p0 p1 := by
  have ok := h.1
  have hc := ok.1
  unfold wpY_token
  refine kj_ydecl (v := v) h p0 (fun i hi e => br_f (by decide) ?_) (fun no => br_t rfl (Kb (fun i t g => no i g.2.1 g.1)))
  subst e
  refine br_c (fun hn => Kb (fun j t g => ?_)) (fun hn => br_c (fun h10 => ?_) (fun h10 => Kb (fun j t g => h10 ?_)))
  · rw [g.2.2.1] at hn; exact nI_pos (by have := g.2.2.2.1; omega) hn
  · obtain ⟨t, ht, e⟩ := nI_of2 (x := p1) (M := 10) (n := 10) (by decide) hn h10
    subst e
    have ini : vp_in (nI i) 4 := vp_in_nI (by omega) (by decide)
    have ai : ky_params v (nI i).toNatClampNeg = nI (kj_ar d i) := by rw [kj_cl (by omega)]; exact h.2.2.1 i
    have h2 := ok.2.1 i
    have uq : ∀ j t', kj_gt d (nI i) (nI t) j t' → j = i ∧ t' = t := fun j t' g => by
      have hj := g.2.1
      have ht' := g.2.2.2.1
      have a := g.1
      have c := g.2.2.1
      rw [nI_eq (by omega) (by omega)] at a c
      exact ⟨a.symm, c.symm⟩
    have k40 : (t = 1 ∨ t = 2 → t ≤ kj_ar d i) → wY_token_40 post (nI i) (nI t) (ky_count v) (ky_params v) (ky_size v) (ky_tokens v) (ky_need v) (ky_done v) (ky_good v) (ky_number v) (ky_stack v) := fun ha => by
      refine pk_lt t 7 (fun z => K i t ⟨rfl, hi, rfl, ht, ha, fun y => by omega⟩) (fun z => ?_) rfl rfl (by omega) (by decide)
      have e7 : nI t - 7 = nI (t - 7) := pk_sub z
      refine pk_lt (t - 7) (kj_c d) (fun y => K i t ⟨rfl, hi, rfl, ht, ha, fun _ => y⟩) (fun y => Kb (fun j t' g => ?_)) e7 h.2.1 (by omega) (by omega)
      obtain ⟨x1, x2⟩ := uq j t' g
      subst x1 x2
      have := g.2.2.2.2.2 z
      omega
    have k30 : (t = 1 ∨ t = 2) → wY_token_30 post (nI i) (nI t) (ky_count v) (ky_params v) (ky_size v) (ky_tokens v) (ky_need v) (ky_done v) (ky_good v) (ky_number v) (ky_stack v) := fun ht2 => by
      refine And.intro ini (pk_lt (kj_ar d i) t (fun z => Kb (fun j t' g => ?_)) (fun z => k40 (fun _ => z)) ai rfl (by omega) (by omega))
      obtain ⟨x1, x2⟩ := uq j t' g
      subst x1 x2
      have := g.2.2.2.2.1 ht2
      omega
    refine pk_eq t 1 (fun z => k30 (Or.inl z)) (fun z => ?_) rfl rfl (by omega) (by decide)
    refine pk_eq t 2 (fun y => k30 (Or.inr y)) (fun y => ?_) rfl rfl (by omega) (by decide)
    exact k40 (fun x => by omega)
  · rw [g.2.2.1]
    exact nI_le (b := 10) g.2.2.2.1 (by decide)
/-- one more token -/
def kj_dt (d : kj_D) (i t : Nat) : kj_D := (kj_c d, kj_ar d, kj_up (kj_sz d) i (kj_sz d i + 1), kj_up (kj_tk d) (20 * i + kj_sz d i) t)
theorem kj_dt_ok {d : kj_D} (ok : kj_ok d) {p0 p1 : Int32} {i t : Nat} (g : kj_gt d p0 p1 i t) (hs : kj_sz d i < 20) : kj_ok (kj_dt d i t) := by
  refine ⟨ok.1, ok.2.1, kj_up_le ok.2.2.1 hs, kj_up_le ok.2.2.2.1 g.2.2.2.1, ok.2.2.2.2.1, fun j hj k hk => ?_⟩
  have hk' : k < kj_up (kj_sz d) i (kj_sz d i + 1) j := hk
  have h20 := ok.2.2.1 j
  rcases Classical.em (20 * j + k = 20 * i + kj_sz d i) with e | e
  · have et : kj_t (kj_dt d i t) j k = t := by
      show kj_up (kj_tk d) (20 * i + kj_sz d i) t (20 * j + k) = t
      rw [e, kj_us]
    have k20 : k < 20 := by
      rcases Nat.decEq j i with z | z
      · rw [kj_un z] at hk'; omega
      · rw [z, kj_us] at hk'; omega
    have ej : j = i := by omega
    unfold kj_okt
    rw [et]
    subst ej
    exact ⟨g.2.2.2.2.1, g.2.2.2.2.2⟩
  · have et : kj_t (kj_dt d i t) j k = kj_t d j k := kj_un e
    have hk2 : k < kj_sz d j := by
      rcases Nat.decEq j i with z | z
      · rw [kj_un z] at hk'; exact hk'
      · rw [z, kj_us] at hk'
        rw [z] at e ⊢
        omega
    unfold kj_okt
    rw [et]
    exact ok.2.2.2.2.2 j hj k hk2
theorem i_vc_token {k : Nat} {u : SX} {v : SY} (I : i_Rel k u v) (hk : k + 4 ≤ 2048) (v1 : Int32) (v2 : Int32) : wpX_token (fun r u' => wpY_token (fun r' v' => r' = r ∧ i_Rel (k + 4) u' v') v v1 v2) u v1 v2 := by
  have I0 := I
  obtain ⟨d, hX, ha, hY, hJ⟩ := I
  have ok := hX.1
  have hc := ok.1
  refine kj_xtokW hX v1 v2 (fun nb => kj_ytokW hY v1 v2 (fun _ => ⟨rfl, I0⟩) (fun i t g => absurd g (nb i t))) (fun i t g => ?_)
  have ei := g.1
  have et := g.2.2.1
  have hi := g.2.1
  have ht := g.2.2.2.1
  subst ei et
  have h20 := ok.2.2.1 i
  have ini : vp_in (nI i) 4 := vp_in_nI (by omega) (by decide)
  have ci : (nI i).toNatClampNeg = i := kj_cl (by omega)
  have sx : kx_sizes u (nI i).toNatClampNeg = nI (kj_sz d i) := by rw [ci]; exact hX.2.2.2.1 i
  have sy : ky_size v (nI i).toNatClampNeg = nI (kj_sz d i) := by rw [ci]; exact hY.2.2.2.1 i
  have ex : nI i * 20 + kx_sizes u (nI i).toNatClampNeg = nI (20 * i + kj_sz d i) := by rw [sx, kj_20]
  have ey : 20 * nI i + ky_size v (nI i).toNatClampNeg = nI (20 * i + kj_sz d i) := by rw [sy, kj_20']
  refine And.intro ini (pk_lt (kj_sz d i) 20 (fun z => ?_) (fun z => ?_) sx rfl (by omega) (by decide))
  · have ok' := kj_dt_ok ok g z
    have tx : upd (kx_tokens u) (nI i * 20 + kx_sizes u (nI i).toNatClampNeg).toNatClampNeg (vp_nar .byte (nI t).toInt8.toInt32) = upd (kx_tokens u) (20 * i + kj_sz d i) (nI t) := by rw [ex, kj_cl (by omega), kj_nb (by omega)]
    have wx : upd (kx_sizes u) (nI i).toNatClampNeg (vp_nar .byte (kx_sizes u (nI i).toNatClampNeg + 1).toInt8.toInt32) = upd (kx_sizes u) i (nI (kj_sz d i + 1)) := by rw [sx, nI_1, kj_nb (by omega), ci]
    have ty : upd (ky_tokens v) (20 * nI i + ky_size v (nI i).toNatClampNeg).toNatClampNeg (nI t) = upd (ky_tokens v) (20 * i + kj_sz d i) (nI t) := by rw [ey, kj_cl (by omega)]
    have wy : upd (ky_size v) (nI i).toNatClampNeg (ky_size v (nI i).toNatClampNeg + 1) = upd (ky_size v) i (nI (kj_sz d i + 1)) := by rw [sy, nI_1, ci]
    have hX' : kj_X (kj_dt d i t) (kx_count u) (kx_arity u) (upd (kx_sizes u) i (nI (kj_sz d i + 1))) (upd (kx_tokens u) (20 * i + kj_sz d i) (nI t)) := ⟨ok', hX.2.1, hX.2.2.1, kj_upd hX.2.2.2.1 i _, kj_upd hX.2.2.2.2 _ t⟩
    have hY' : kj_X (kj_dt d i t) (ky_count v) (ky_params v) (upd (ky_size v) i (nI (kj_sz d i + 1))) (upd (ky_tokens v) (20 * i + kj_sz d i) (nI t)) := ⟨ok', hY.2.1, hY.2.2.1, kj_upd hY.2.2.2.1 i _, kj_upd hY.2.2.2.2 _ t⟩
    refine ⟨ini, kj_in ex (by omega) (by decide), nm_r tx ⟨ini, ini, nm_r wx ?_⟩⟩
    refine kj_xfields (u := ((kx_count u), (kx_all u), (0), (kx_settledSet u), (kx_wellSet u), (kx_nodes u), (kx_arity u), (upd (kx_sizes u) i (nI (kj_sz d i + 1))), (upd (kx_tokens u) (20 * i + kj_sz d i) (nI t)), (kx_finished u), (kx_fieldCount u), (kx_need u), (kx_settled u), (kx_trial u), (kx_sort u), (kx_left u), (kx_right u), (kx_link u), (kx_typeNode u), (kx_parameterNode u), (kx_values u), (kx_todoA u), (kx_todoB u))) (d := kj_dt d i t) hX' (nI i) (fun no => absurd rfl (no i hi)) (fun i2 hi2 e2 fc fi a1 a2 a3 a4 => ?_)
    have e2' : i2 = i := by
      have hi2' : i2 < kj_c d := hi2
      rw [nI_eq (by omega) (by omega)] at e2
      exact e2.symm
    subst e2'
    refine kj_ytokW hY (nI i2) (nI t) (fun nb => absurd g (nb i2 t)) (fun i' t' g' => ?_)
    refine And.intro ini (pk_lt (kj_sz d i2) 20 (fun _ => ⟨ini, kj_in ey (by omega) (by decide), nm_r ty ⟨ini, ini, nm_r wy ?_⟩⟩) (fun y => by omega) sy rfl (by omega) (by decide))
    refine kj_yfields (v := ((ky_count v), (ky_params v), (upd (ky_size v) i2 (nI (kj_sz d i2 + 1))), (upd (ky_tokens v) (20 * i2 + kj_sz d i2) (nI t)), (ky_need v), (ky_done v), (ky_good v), (ky_number v), (ky_stack v))) (d := kj_dt d i2 t) hY' (nI i2) (fun no => absurd rfl (no i2 hi2)) (fun i3 hi3 e3 => ⟨?_, ?_⟩)
    · have hi3' : i3 < kj_c d := hi3
      rw [nI_eq (by omega) (by omega)] at e3
      rw [e3]
    · exact kj_mk (k + 4) ((kx_count u), (kx_all u), (0), (kx_settledSet u), (kx_wellSet u), (kx_nodes u), (kx_arity u), (upd (kx_sizes u) i2 (nI (kj_sz d i2 + 1))), (upd (kx_tokens u) (20 * i2 + kj_sz d i2) (nI t)), (fi), (fc), (kx_need u), (kx_settled u), (kx_trial u), (kx_sort u), (kx_left u), (kx_right u), (kx_link u), (kx_typeNode u), (kx_parameterNode u), (kx_values u), (kx_todoA u), (kx_todoB u)) ((ky_count v), (ky_params v), (upd (ky_size v) i2 (nI (kj_sz d i2 + 1))), (upd (ky_tokens v) (20 * i2 + kj_sz d i2) (nI t)), (ky_need v), (ky_done v), (ky_good v), (ky_number v), (ky_stack v)) (kj_dt d i2 t) hX' ha hY' (fun z => absurd rfl z)
  · refine kj_ytokW hY (nI i) (nI t) (fun nb => absurd g (nb i t)) (fun i' t' g' => ?_)
    exact And.intro ini (pk_lt (kj_sz d i) 20 (fun y => by omega) (fun _ => ⟨rfl, I0⟩) sy rfl (by omega) (by decide))
end
section
/-! ===== needs, group ===== -/
theorem kj_same {d : kj_D} (ok : kj_ok d) {p : Int32} {i j : Nat} (hi : i < kj_c d) (hj : j < kj_c d) (e : p = nI i) (e' : p = nI j) : j = i := by
  have hc := ok.1
  rw [e, nI_eq (by omega) (by omega)] at e'
  exact e'.symm
theorem i_vc_needs {k : Nat} {u : SX} {v : SY} (I : i_Rel k u v) (hk : k + 4 ≤ 2048) (v1 : Int32) (v2 : Int32) : wpX_needs (fun r u' => wpY_needs (fun r' v' => r' = r ∧ i_Rel (k + 4) u' v') v v1 v2) u v1 v2 := by
  have I0 := I
  obtain ⟨d, hX, ha, hY, hJ⟩ := I
  have ok := hX.1
  have hc := ok.1
  unfold wpX_needs
  refine kj_xdecl (u := u) hX v1 (fun i hi e1 => br_f (by decide) (kj_xdecl (u := u) hX v2 (fun j hj e2 => br_f (by decide) ?_) (fun no => br_t rfl ?_))) (fun no => br_t rfl ?_)
  · refine kj_xjudge (u := u) hX hJ (fun u' st nj J => ?_)
    have ini : vp_in v1 4 := kj_in e1 (by omega) (by decide)
    have c1 : v1.toNatClampNeg = i := by rw [e1]; exact kj_cl (by omega)
    have nx : kx_need u' v1.toNatClampNeg = nI (kj_nd d i) := by rw [c1]; exact J.1 i hi
    have R : ∀ na : Nat → Int32, i_Rel (k + 4) u' ((ky_count v), (ky_params v), (ky_size v), (ky_tokens v), (na), (ky_done v), (ky_good v), (ky_number v), (ky_stack v)) := fun na => kj_mk (k + 4) u' ((ky_count v), (ky_params v), (ky_size v), (ky_tokens v), (na), (ky_done v), (ky_good v), (ky_number v), (ky_stack v)) d (kj_St_X st hX) (st.2.1.trans ha) hY (fun _ => J)
    have Y : ∀ r : Int32, ((kj_nd d i).testBit j = true → r = 1) → ((kj_nd d i).testBit j = false → r = 0) → wpY_needs (fun r' v' => r' = r ∧ i_Rel (k + 4) u' v') v v1 v2 := fun r r1 r0 => by
      unfold wpY_needs
      refine kj_ydecl (v := v) hY v1 (fun i' hi' e1' => br_f (by decide) (kj_ydecl (v := v) hY v2 (fun j' hj' e2' => br_f (by decide) ?_) (fun no => absurd e2 (no j hj)))) (fun no => absurd e1 (no i hi))
      refine kj_yfind (v := v) hY (fun na hn => ?_)
      have ny : na v1.toNatClampNeg = nI (kj_nd d i) := by rw [c1]; exact hn i (by omega)
      exact And.intro ini (kj_b1 (kj_nd d i) j ny e2 (kj_nd_lt ok i) (by omega) (fun z => ⟨(r1 z).symm, R na⟩) (fun z => ⟨(r0 z).symm, R na⟩))
    exact And.intro ini (kj_b0 (kj_nd d i) j nx e2 (kj_nd_lt ok i) (by omega) (fun z => Y 0 (fun y => by rw [z] at y; exact absurd y (by decide)) (fun _ => rfl)) (fun z => Y 1 (fun _ => rfl) (fun y => by rw [z] at y; exact absurd y (by decide))))
  · unfold wpY_needs
    exact kj_ydecl (v := v) hY v1 (fun i' hi' e1' => br_f (by decide) (kj_ydecl (v := v) hY v2 (fun j hj e => absurd e (no j hj)) (fun _ => br_t rfl ⟨rfl, I0⟩))) (fun no' => absurd e1 (no' i hi))
  · unfold wpY_needs
    exact kj_ydecl (v := v) hY v1 (fun i hi e => absurd e (no i hi)) (fun _ => br_t rfl ⟨rfl, I0⟩)
theorem kj_least {S i : Nat} (h : S.testBit i = true) : ∃ k0, k0 ≤ i ∧ S.testBit k0 = true ∧ ∀ a, a < k0 → S.testBit a = false := by
  obtain ⟨k0, h0, hl⟩ := pk_least (fun a => S.testBit a = true) ⟨i, h⟩
  refine ⟨k0, ?_, h0, fun a ha => ?_⟩
  · rcases Nat.lt_or_ge i k0 with z | z
    · exact absurd h (hl i z)
    · exact z
  · cases e : S.testBit a
    · rfl
    · exact absurd e (hl a ha)
theorem i_vc_group {k : Nat} {u : SX} {v : SY} (I : i_Rel k u v) (hk : k + 4 ≤ 2048) (v1 : Int32) : wpX_group (fun r u' => wpY_group (fun r' v' => r' = r ∧ i_Rel (k + 4) u' v') v v1) u v1 := by
  have I0 := I
  obtain ⟨d, hX, ha, hY, hJ⟩ := I
  have ok := hX.1
  have hc := ok.1
  unfold wpX_group
  refine kj_xdecl (u := u) hX v1 (fun i hi e1 => br_f (by decide) ?_) (fun no => br_t rfl ?_)
  · subst e1
    have gS := kj_g_lt d (i := i) (by omega)
    obtain ⟨k0, hk0, g0, gl⟩ := kj_least (kj_g_self ok i)
    refine kj_xjudge (u := u) hX hJ (fun u' st nj J => ?_)
    have hX' := kj_St_X st hX
    refine kj_xgrp (u := u') hX' J.1 hi ⟨k0 + 1, ?_⟩
    have Y : wpY_group (fun r' v' => r' = nI k0 ∧ i_Rel (k + 4) u' v') v (nI i) := by
      unfold wpY_group
      refine kj_ydecl (v := v) hY (nI i) (fun i' hi' e1' => br_f (by decide) ?_) (fun no => absurd rfl (no i hi))
      refine kj_yfind (v := v) hY (fun na hn => ?_)
      have R : i_Rel (k + 4) u' ((ky_count v), (ky_params v), (ky_size v), (ky_tokens v), (na), (ky_done v), (ky_good v), (ky_number v), (ky_stack v)) := kj_mk (k + 4) u' ((ky_count v), (ky_params v), (ky_size v), (ky_tokens v), (na), (ky_done v), (ky_good v), (ky_number v), (ky_stack v)) d hX' (st.2.1.trans ha) hY (fun _ => J)
      refine kj_ygrp (v := ((ky_count v), (ky_params v), (ky_size v), (ky_tokens v), (na), (ky_done v), (ky_good v), (ky_number v), (ky_stack v))) ok hn (by omega) ⟨k0 + 1, ?_⟩
      have key : ∀ m x, x + m = k0 → wY_group_22 (fun r' v' => r' = nI k0 ∧ i_Rel (k + 4) u' v') (nI (kj_g d i)) (ky_count v) (ky_params v) (ky_size v) (ky_tokens v) (na) (ky_done v) (ky_good v) (ky_number v) (ky_stack v) (m + 1) (nI x) := by
        intro m
        induction m with
        | zero =>
          intro x hx
          have ex : x = k0 := by omega
          subst ex
          exact pk_le 4 x (fun z => by omega) (fun _ => kj_b1 (kj_g d i) x rfl rfl gS (by omega) (fun _ => ⟨rfl, R⟩) (fun z => by rw [g0] at z; exact absurd z (by decide))) rfl rfl (by decide) (by omega)
        | succ m ih =>
          intro x hx
          exact pk_le 4 x (fun z => by omega) (fun _ => kj_b1 (kj_g d i) x rfl rfl gS (by omega) (fun z => by rw [gl x (by omega)] at z; exact absurd z (by decide)) (fun _ => nm_r (nI_1 x) (ih (x + 1) (by omega)))) rfl rfl (by decide) (by omega)
      exact key k0 0 (Nat.zero_add _)
    have key : ∀ m x, x + m = k0 → wX_group_22 (fun r u' => wpY_group (fun r' v' => r' = r ∧ i_Rel (k + 4) u' v') v (nI i)) (nI i) (nI (kj_g d i)) (kx_count u') (kx_all u') (kx_judged u') (kx_settledSet u') (kx_wellSet u') (kx_nodes u') (kx_arity u') (kx_sizes u') (kx_tokens u') (kx_finished u') (kx_fieldCount u') (kx_need u') (kx_settled u') (kx_trial u') (kx_sort u') (kx_left u') (kx_right u') (kx_link u') (kx_typeNode u') (kx_parameterNode u') (kx_values u') (kx_todoA u') (kx_todoB u') (m + 1) (nI x) := by
      intro m
      induction m with
      | zero =>
        intro x hx
        have ex : x = k0 := by omega
        subst ex
        exact pk_le (kj_c d) x (fun z => by omega) (fun _ => kj_b0 (kj_g d i) x rfl rfl gS (by omega) (fun z => by rw [g0] at z; exact absurd z (by decide)) (fun _ => Y)) hX'.2.1 rfl (by omega) (by omega)
      | succ m ih =>
        intro x hx
        exact pk_le (kj_c d) x (fun z => by omega) (fun _ => kj_b0 (kj_g d i) x rfl rfl gS (by omega) (fun _ => nm_r (nI_1 x) (ih (x + 1) (by omega))) (fun z => by rw [gl x (by omega)] at z; exact absurd z (by decide))) hX'.2.1 rfl (by omega) (by omega)
    exact key k0 0 (Nat.zero_add _)
  · unfold wpY_group
    exact kj_ydecl (v := v) hY v1 (fun i hi e => absurd e (no i hi)) (fun _ => br_t rfl ⟨rfl, I0⟩)
end
section
/-! ===== well, kind ===== -/
/-- what is held once X has judged, with its set and its numbers named -/
def kj_JW (d : kj_D) (w : Nat) (N0 : Nat → Nat) (na : Nat → Int32) (wS : Int32) (st fi : Nat → Int32) : Prop := kj_XN d na ∧ (∀ i, i < kj_c d → fi i = nI (kj_e d i)) ∧ wS = nI w ∧ w < 16 ∧ (∀ j, w.testBit j = true → j < kj_c d) ∧ kj_Nm d w N0 st ∧ ∀ i, i < kj_c d → kj_Sp d w N0 i
theorem kj_JW_D {d : kj_D} {w : Nat} {N0 : Nat → Nat} {na : Nat → Int32} {wS : Int32} {st fi : Nat → Int32} (h : kj_JW d w N0 na wS st fi) : kj_JD d na wS st fi := ⟨h.1, h.2.1, w, N0, h.2.2⟩
theorem kj_xwell {post : Int32 → SX → Prop} {u : SX} {d : kj_D} (h : kj_X d (kx_count u) (kx_arity u) (kx_sizes u) (kx_tokens u)) (hj : ¬ kx_judged u = 0 → kj_JD d (kx_need u) (kx_wellSet u) (kx_settled u) (kx_finished u)) (p : Int32) (K0 : (∀ i, i < kj_c d → p ≠ nI i) → post 0 u)
    (K1 : ∀ i, i < kj_c d → p = nI i → ∀ (u' : SX) (w : Nat) (N0 : Nat → Nat), kj_St u u' → ¬ kx_judged u' = 0 → kj_JW d w N0 (kx_need u') (kx_wellSet u') (kx_settled u') (kx_finished u') → post (kj_bb w i) u') : wpX_well post u p := by
  have hc := h.1.1
  unfold wpX_well
  refine kj_xdecl (u := u) h p (fun i hi e => br_f (by decide) ?_) (fun no => br_t rfl (K0 no))
  refine kj_xjudge (u := u) h hj (fun u' st nj J => ?_)
  obtain ⟨j1, j2, w, N0, j3⟩ := J
  have k := K1 i hi e u' w N0 st nj ⟨j1, j2, j3⟩
  refine kj_b0 w i j3.1 e j3.2.1 (by omega) (fun z => ?_) (fun z => ?_)
  · rw [kj_bb_f (kj_tt z)] at k; exact k
  · rw [kj_bb_t z] at k; exact k
/-- what Y holds once all is settled -/
def kj_YJ (d : kj_D) (w : Nat) (N0 : Nat → Nat) (na go nu : Nat → Int32) : Prop := kj_YN d na ∧ (∀ j, j < kj_c d → go j = kj_bb w j ∧ (w.testBit j = true → kj_yn d nu N0 j)) ∧ ∀ j, kj_c d ≤ j → j < 4 → go j = 0
theorem kj_ywell {post : Int32 → SY → Prop} {v : SY} {d : kj_D} {w : Nat} {N0 : Nat → Nat} (h : kj_X d (ky_count v) (ky_params v) (ky_size v) (ky_tokens v)) (sp : ∀ i, i < kj_c d → kj_Sp d w N0 i) {i : Nat} (hi : i < kj_c d) {p : Int32} (e : p = nI i)
    (K : ∀ na dn go nu st : Nat → Int32, kj_YJ d w N0 na go nu → post (kj_bb w i) ((ky_count v), (ky_params v), (ky_size v), (ky_tokens v), (na), (dn), (go), (nu), (st))) : wpY_well post v p := by
  have hc := h.1.1
  unfold wpY_well
  refine kj_ysettleAll (v := v) h sp (fun na dn go nu st a1 a2 a3 => ?_)
  have k := K na dn go nu st ⟨a1, a2, a3⟩
  refine kj_ydecl (v := ((ky_count v), (ky_params v), (ky_size v), (ky_tokens v), (na), (dn), (go), (nu), (st))) h p (fun i' hi' e' => br_f (by decide) ⟨kj_in e (by omega) (by decide), ?_⟩) (fun no => absurd e (no i hi))
  have gi : go p.toNatClampNeg = kj_bb w i := by rw [e, kj_cl (by omega)]; exact (a2 i hi).1
  rcases Classical.em (w.testBit i = true) with z | z
  · rw [kj_bb_t z] at gi k
    exact br_f (by rw [gi]; decide) k
  · rw [kj_bb_f z] at gi k
    exact br_t gi k
theorem kj_ywellW {post : Int32 → SY → Prop} {v : SY} {d : kj_D} (h : kj_X d (ky_count v) (ky_params v) (ky_size v) (ky_tokens v)) {p : Int32} (no : ∀ i, i < kj_c d → p ≠ nI i) (K : ∀ na dn go nu st : Nat → Int32, post 0 ((ky_count v), (ky_params v), (ky_size v), (ky_tokens v), (na), (dn), (go), (nu), (st))) : wpY_well post v p := by
  unfold wpY_well
  refine kj_ysettleAllW (v := v) h (fun na dn go nu st _ => ?_)
  exact kj_ydecl (v := ((ky_count v), (ky_params v), (ky_size v), (ky_tokens v), (na), (dn), (go), (nu), (st))) h p (fun i hi e => absurd e (no i hi)) (fun _ => br_t rfl (K na dn go nu st))
theorem kj_mkY {k : Nat} {u : SX} {v : SY} (I : i_Rel k u v) (na dn go nu st : Nat → Int32) : i_Rel (k + 4) u ((ky_count v), (ky_params v), (ky_size v), (ky_tokens v), (na), (dn), (go), (nu), (st)) := by
  obtain ⟨d, hX, ha, hY, hJ⟩ := I
  exact kj_mk (k + 4) u ((ky_count v), (ky_params v), (ky_size v), (ky_tokens v), (na), (dn), (go), (nu), (st)) d hX ha hY hJ
theorem kj_mkW {k : Nat} {u u' : SX} {v : SY} {d : kj_D} {w : Nat} {N0 : Nat → Nat} (hX : kj_X d (kx_count u) (kx_arity u) (kx_sizes u) (kx_tokens u)) (ha : kx_all u = nI (kj_sum (kj_ar d) (kj_c d))) (hY : kj_X d (ky_count v) (ky_params v) (ky_size v) (ky_tokens v)) (s : kj_St u u') (J : kj_JW d w N0 (kx_need u') (kx_wellSet u') (kx_settled u') (kx_finished u')) (na dn go nu st : Nat → Int32) : i_Rel (k + 4) u' ((ky_count v), (ky_params v), (ky_size v), (ky_tokens v), (na), (dn), (go), (nu), (st)) :=
  kj_mk (k + 4) u' ((ky_count v), (ky_params v), (ky_size v), (ky_tokens v), (na), (dn), (go), (nu), (st)) d (kj_St_X s hX) (s.2.1.trans ha) hY (fun _ => kj_JW_D J)
theorem i_vc_well {k : Nat} {u : SX} {v : SY} (I : i_Rel k u v) (hk : k + 4 ≤ 2048) (v1 : Int32) : wpX_well (fun r u' => wpY_well (fun r' v' => r' = r ∧ i_Rel (k + 4) u' v') v v1) u v1 := by
  have I0 := I
  obtain ⟨d, hX, ha, hY, hJ⟩ := I
  refine kj_xwell hX hJ v1 (fun no => kj_ywellW hY no (fun na dn go nu st => ⟨rfl, kj_mkY I0 na dn go nu st⟩)) (fun i hi e u' w N0 s nj J => ?_)
  exact kj_ywell hY J.2.2.2.2.2.2 hi e (fun na dn go nu st _ => ⟨rfl, kj_mkW hX ha hY s J na dn go nu st⟩)
theorem i_vc_kind {k : Nat} {u : SX} {v : SY} (I : i_Rel k u v) (hk : k + 4 ≤ 2048) (v1 : Int32) (v2 : Int32) : wpX_kind (fun r u' => wpY_kind (fun r' v' => r' = r ∧ i_Rel (k + 4) u' v') v v1 v2) u v1 v2 := by
  have I0 := I
  obtain ⟨d, hX, ha, hY, hJ⟩ := I
  have ok := hX.1
  have hc := ok.1
  unfold wpX_kind
  refine kj_xwell (u := u) hX hJ v1 (fun no => ?_) (fun i hi e u' w N0 s nj J => ?_)
  · refine br_t rfl ?_
    unfold wpY_kind
    exact kj_ywellW (v := v) hY no (fun na dn go nu st => br_t rfl ⟨rfl, kj_mkY I0 na dn go nu st⟩)
  · have sp := J.2.2.2.2.2.2
    have h2 := ok.2.1 i
    have hX' := kj_St_X s hX
    rcases Classical.em (w.testBit i = true) with z | z
    · rw [kj_bb_t z]
      have ini : vp_in v1 4 := kj_in e (by omega) (by decide)
      have c1 : v1.toNatClampNeg = i := by rw [e]; exact kj_cl (by omega)
      have ax : kx_arity u' v1.toNatClampNeg = nI (kj_ar d i) := by rw [c1]; exact hX'.2.2.1 i
      have ay : ky_params v v1.toNatClampNeg = nI (kj_ar d i) := by rw [c1]; exact hY.2.2.1 i
      refine br_f (by decide) ?_
      by_cases hn : v2 < 0
      · refine br_t hn ?_
        unfold wpY_kind
        refine kj_ywell (v := v) hY sp hi e (fun na dn go nu st _ => ?_)
        rw [kj_bb_t z]
        exact br_f (by decide) (br_t hn ⟨rfl, kj_mkW hX ha hY s J na dn go nu st⟩)
      · obtain ⟨p, hp, e2⟩ := nI_of hn
        refine br_f hn ⟨ini, ?_⟩
        refine pk_lt p (kj_ar d i) (fun y => ?_) (fun y => ?_) e2 ax hp (by omega)
        · have ex : v1 * 2 + v2 = nI (2 * i + p) := by rw [e, e2]; exact kj_2 p
          have ey : 2 * v1 + v2 = nI (2 * i + p) := by rw [e, e2]; exact kj_2' p
          have nm := J.2.2.2.2.2.1 i hi z p y
          refine ⟨kj_in ex (by omega) (by decide), ?_⟩
          unfold wpY_kind
          refine kj_ywell (v := v) hY sp hi e (fun na dn go nu st Y => ?_)
          rw [kj_bb_t z]
          have ny := (Y.2.1 i hi).2 z p y
          refine br_f (by decide) (br_f hn ⟨ini, pk_lt p (kj_ar d i) (fun _ => ⟨kj_in ey (by omega) (by decide), ?_, kj_mkW hX ha hY s J na dn go nu st⟩) (fun x => by omega) e2 ay hp (by omega)⟩)
          show nu (2 * v1 + v2).toNatClampNeg = kx_settled u' (v1 * 2 + v2).toNatClampNeg
          rw [ex, ey, kj_cl (by omega)]
          exact ny.1.trans nm.1.symm
        · unfold wpY_kind
          refine kj_ywell (v := v) hY sp hi e (fun na dn go nu st _ => ?_)
          rw [kj_bb_t z]
          exact br_f (by decide) (br_f hn ⟨ini, pk_lt p (kj_ar d i) (fun x => by omega) (fun _ => ⟨rfl, kj_mkW hX ha hY s J na dn go nu st⟩) e2 ay hp (by omega)⟩)
    · rw [kj_bb_f z]
      refine br_t rfl ?_
      unfold wpY_kind
      refine kj_ywell (v := v) hY sp hi e (fun na dn go nu st _ => ?_)
      rw [kj_bb_f z]
      exact br_t rfl ⟨rfl, kj_mkW hX ha hY s J na dn go nu st⟩
end
section
/-! ===== could ===== -/
theorem kj_ycould46 {post : Int32 → SY → Prop} {v : SY} {d : kj_D} {S : Nat} {N0 : Nat → Nat} (h : kj_X d (ky_count v) (ky_params v) (ky_size v) (ky_tokens v)) (hS : S < 16) (hSc : ∀ j, S.testBit j = true → j < kj_c d) (nn : ∀ i, S.testBit i = true → ∀ j, (kj_nd d i).testBit j = true → ¬ S.testBit j = true → kj_yn d (ky_number v) N0 j)
    {i p q : Nat} (hp : 2 * i + p < 8) (cl : kj_cell d S (2 * i + p)) (hq : q < 4)
    (K1 : ∀ nu st : Nat → Int32, (∃ num, kj_OK d S N0 num ∧ num (2 * i + p) = q ∧ ∀ i, S.testBit i = true → kj_Fit d num i) → post 1 ((ky_count v), (ky_params v), (ky_size v), (ky_tokens v), (ky_need v), (ky_done v), (ky_good v), (nu), (st)))
    (K0 : ∀ nu st : Nat → Int32, (∀ num, kj_OK d S N0 num → num (2 * i + p) = q → ¬ ∀ i, S.testBit i = true → kj_Fit d num i) → post 0 ((ky_count v), (ky_params v), (ky_size v), (ky_tokens v), (ky_need v), (ky_done v), (ky_good v), (nu), (st))) :
    ∀ (m c : Nat) (nu st : Nat → Int32), c + m = 4096 → (∀ q, ¬ kj_cell d S q → nu q = ky_number v q) → (∀ n2, kj_OK d S N0 n2 → n2 (2 * i + p) = q → kj_V d S n2 8 < c → ¬ ∀ i, S.testBit i = true → kj_Fit d n2 i) →
      wY_could_46 post (nI i) (nI p) (nI q) (nI S) (m + 2) 0 (nI c) (ky_count v) (ky_params v) (ky_size v) (ky_tokens v) (ky_need v) (ky_done v) (ky_good v) (nu) (st) := by
  have ok := h.1
  have ep : 2 * nI i + nI p = nI (2 * i + p) := kj_2' p
  have cp : (2 * nI i + nI p).toNatClampNeg = 2 * i + p := by rw [ep]; exact kj_cl (by omega)
  intro m
  induction m with
  | zero =>
    intro c nu st hc H1 H2
    refine br_t (nI_le (by omega : 4096 ≤ c) (by omega)) ⟨kj_nb01 (Or.inl rfl), K0 nu st (fun n2 o e => H2 n2 o e ?_)⟩
    have := kj_V_8 ok hSc o.1
    omega
  | succ m ih =>
    intro c nu st hc H1 H2
    refine br_f (nI_ge (a := c) (b := 4096) (by omega) (by decide)) (br_t rfl ?_)
    refine kj_ychoose (v := ((ky_count v), (ky_params v), (ky_size v), (ky_tokens v), (ky_need v), (ky_done v), (ky_good v), (nu), (st))) (d := d) h hS (c0 := c) (by omega) (fun nu' num e1 e2 ec => br_f (by decide) ⟨kj_in ep hp (by decide), ?_⟩) (fun nu' e2 no => br_t rfl (nm_r (nI_1 c) ?_))
    · have MO := kj_mix_OK (d := d) (S := S) (num := num) (N0 := N0) (fun q hq cl => (e1 q hq cl).2)
      have e3 : ∀ q, ¬ kj_cell d S q → nu' q = ky_number v q := fun q nq => (e2 q nq).trans (H1 q nq)
      have np := e1 (2 * i + p) hp cl
      have nq : nu' (2 * nI i + nI p).toNatClampNeg = nI (num (2 * i + p)) := by rw [cp]; exact np.1
      have mp : kj_mix d S num N0 (2 * i + p) = num (2 * i + p) := kj_mix_t cl
      have next : ∀ st' : Nat → Int32, (num (2 * i + p) = q → ¬ ∀ i, S.testBit i = true → kj_Fit d (kj_mix d S num N0) i) → wY_could_46 post (nI i) (nI p) (nI q) (nI S) (m + 2) 0 (nI (c + 1)) (ky_count v) (ky_params v) (ky_size v) (ky_tokens v) (ky_need v) (ky_done v) (ky_good v) (nu') (st') := fun st' F => by
        refine ih (c + 1) nu' st' (by omega) e3 (fun n2 o2 eq lt => ?_)
        rcases Nat.lt_or_ge (kj_V d S n2 8) c with z | z
        · exact H2 n2 o2 eq z
        · have e : n2 = kj_mix d S num N0 := kj_OK_eq o2 MO.1 (by rw [MO.2, ← ec]; omega) (kj_cell8 ok hSc)
          rw [e] at eq ⊢
          exact F (by rw [← mp]; exact eq)
      refine pk_eq (num (2 * i + p)) q (fun z => ?_) (fun z => nm_r (nI_1 c) (next st (fun y => absurd y z))) nq rfl (by omega) (by omega)
      have YN := fun j => kj_mix_yn ok hSc e1 e3 (N0 := N0) (j := j)
      have YN2 : ∀ i, S.testBit i = true → ∀ j, (kj_nd d i).testBit j = true → kj_yn d nu' (kj_mix d S num N0) j := fun i si j nj => YN j (fun ns => nn i si j nj ns)
      refine kj_yfits (v := ((ky_count v), (ky_params v), (ky_size v), (ky_tokens v), (ky_need v), (ky_done v), (ky_good v), (nu'), (st))) (d := d) (num := kj_mix d S num N0) h hS hSc (fun i si => YN i (fun ns => absurd si ns)) YN2 (fun st' F => br_f (by decide) (nm_r (nI_1 c) ?_)) (fun st' F => br_t rfl (nm_r (nI_1 c) (next st' (fun _ => F))))
      have R := K1 nu' st' ⟨kj_mix d S num N0, MO.1, by rw [mp]; exact z, F⟩
      exact br_c (fun _ => ⟨kj_nb01 (Or.inr rfl), R⟩) (fun _ => br_f (by decide) ⟨kj_nb01 (Or.inr rfl), R⟩)
    · refine ih (c + 1) nu' st (by omega) (fun q nq => (e2 q nq).trans (H1 q nq)) (fun n2 o2 eq lt => ?_)
      rcases Nat.lt_or_ge (kj_V d S n2 8) c with z | z
      · exact H2 n2 o2 eq z
      · exact absurd (by omega : c = kj_V d S n2 8) (no n2 o2.1)
theorem kj_OK_Ad {d : kj_D} (ok : kj_ok d) {S : Nat} (hSc : ∀ j, S.testBit j = true → j < kj_c d) {N0 num : Nat → Nat} (o : kj_OK d S N0 num) : kj_Ad d S N0 num :=
  ⟨fun j sj p hp => o.1 _ (kj_cell8 ok hSc _ (kj_cell_of ok sj hp)) (kj_cell_of ok sj hp), fun j sj p hp => o.2 _ (kj_cell_no ok sj hp)⟩
theorem kj_Best_OK {d : kj_D} (ok : kj_ok d) {S : Nat} (hSc : ∀ j, S.testBit j = true → j < kj_c d) {N0 tr : Nat → Nat} {pin : Option (Nat × Nat)} (B : kj_Best d S N0 pin tr) : kj_OK d S N0 (kj_mix d S tr N0) ∧ ∀ i, S.testBit i = true → kj_Fit d (kj_mix d S tr N0) i := by
  have h2 := ok.2.1
  have c4 : ∀ q, q < 8 → kj_cell d S q → tr q < 4 := fun q _ cl => by
    have := B.1 (q / 2) cl.1 (q % 2) cl.2
    rw [show 2 * (q / 2) + q % 2 = q by omega] at this
    exact this
  refine ⟨(kj_mix_OK c4).1, fun i si => ?_⟩
  have ag : ∀ j, kj_ag d tr (kj_mix d S tr N0) j := fun j p hp => by
    rcases Classical.em (S.testBit j = true) with z | z
    · rw [kj_mix_t (kj_cell_of ok z hp)]
    · rw [kj_mix_f (kj_cell_no ok z hp)]
      exact B.2.1 _ (by rw [kj_bq (h2 j) hp]; exact z)
  exact kj_Fit_cg ok (hSc i si) (ag i) (fun j _ => ag j) (B.2.2.2.1 i si)
/-- the rows on could: outside of its domain both answer no; inside, go on -/
theorem kj_ycould {post : Int32 → SY → Prop} {v : SY} {d : kj_D} {w : Nat} {N0 : Nat → Nat} (h : kj_X d (ky_count v) (ky_params v) (ky_size v) (ky_tokens v)) (sp : ∀ i, i < kj_c d → kj_Sp d w N0 i) {i p q : Nat} (hi : i < kj_c d) (wi : w.testBit i = true) (hp : p < kj_ar d i) (hq : q < 4)
    (K1 : ∀ na dn go nu st : Nat → Int32, (∃ num, kj_OK d (kj_g d i) N0 num ∧ num (2 * i + p) = q ∧ ∀ j, (kj_g d i).testBit j = true → kj_Fit d num j) → post 1 ((ky_count v), (ky_params v), (ky_size v), (ky_tokens v), (na), (dn), (go), (nu), (st)))
    (K0 : ∀ na dn go nu st : Nat → Int32, (∀ num, kj_OK d (kj_g d i) N0 num → num (2 * i + p) = q → ¬ ∀ j, (kj_g d i).testBit j = true → kj_Fit d num j) → post 0 ((ky_count v), (ky_params v), (ky_size v), (ky_tokens v), (na), (dn), (go), (nu), (st))) : wpY_could post v (nI i) (nI p) (nI q) := by
  have ok := h.1
  have hc := ok.1
  have h2 := ok.2.1 i
  have ini : vp_in (nI i) 4 := vp_in_nI (by omega) (by decide)
  have ay : ky_params v (nI i).toNatClampNeg = nI (kj_ar d i) := by rw [kj_cl (by omega)]; exact h.2.2.1 i
  have gS := kj_g_lt d (i := i) (by omega)
  have hSc : ∀ j, (kj_g d i).testBit j = true → j < kj_c d := fun j gj => kj_g_c ok hi gj
  unfold wpY_could
  refine kj_ywell (v := v) h sp hi rfl (fun na dn go nu st Y => ?_)
  rw [kj_bb_t wi]
  refine br_f (by decide) (br_f (nI_pos (by omega)) ⟨ini, pk_le (kj_ar d i) p (fun z => by omega) (fun _ => br_f (nI_pos (by omega)) (br_t (nI_le (b := 3) (by omega) (by decide)) ?_)) ay rfl (by omega) (by omega)⟩)
  refine kj_ygrp (v := ((ky_count v), (ky_params v), (ky_size v), (ky_tokens v), (na), (dn), (go), (nu), (st))) ok Y.1 (by omega) (Exists.intro (4096 + 2) ?_)
  refine kj_ycould46 (v := ((ky_count v), (ky_params v), (ky_size v), (ky_tokens v), (na), (dn), (go), (nu), (st))) (d := d) (N0 := N0) h gS hSc (fun a ga j nj gj => ?_) (by omega) (kj_cell_of ok (kj_g_self ok i) hp) hq (fun nu' st' H => K1 na dn go nu' st' H) (fun nu' st' H => K0 na dn go nu' st' H) 4096 0 nu st (by decide) (fun q _ => rfl) (fun n2 _ _ lt => absurd lt (Nat.not_lt_zero _))
  have nj' := kj_g_nd ok (kj_g_sym ok ga) nj
  have wj := ((sp i hi).1 wi).1 j nj'
  exact (Y.2.1 j (kj_nd_lt4 ok nj')).2 (wj.resolve_left gj)
theorem i_vc_could {k : Nat} {u : SX} {v : SY} (I : i_Rel k u v) (hk : k + 4 ≤ 2048) (v1 : Int32) (v2 : Int32) (v3 : Int32) : wpX_could (fun r u' => wpY_could (fun r' v' => r' = r ∧ i_Rel (k + 4) u' v') v v1 v2 v3) u v1 v2 v3 := by
  have I0 := I
  obtain ⟨d, hX, ha, hY, hJ⟩ := I
  have ok := hX.1
  have hc := ok.1
  unfold wpX_could
  refine kj_xwell (u := u) hX hJ v1 (fun no => ?_) (fun i hi e u' w N0 s nj J => ?_)
  · refine br_t rfl ?_
    unfold wpY_could
    exact kj_ywellW (v := v) hY no (fun na dn go nu st => br_t rfl ⟨rfl, kj_mkY I0 na dn go nu st⟩)
  · have sp := J.2.2.2.2.2.2
    have h2 := ok.2.1 i
    have hX' := kj_St_X s hX
    have M := fun na dn go nu st => kj_mkW (k := k) hX ha hY s J na dn go nu st
    rcases Classical.em (w.testBit i = true) with z | z
    · rw [kj_bb_t z]
      have ini : vp_in v1 4 := kj_in e (by omega) (by decide)
      have c1 : v1.toNatClampNeg = i := by rw [e]; exact kj_cl (by omega)
      have ax : kx_arity u' v1.toNatClampNeg = nI (kj_ar d i) := by rw [c1]; exact hX'.2.2.1 i
      have ay : ky_params v v1.toNatClampNeg = nI (kj_ar d i) := by rw [c1]; exact hY.2.2.1 i
      refine br_f (by decide) ?_
      by_cases hn : v2 < 0
      · refine br_t hn ?_
        unfold wpY_could
        refine kj_ywell (v := v) hY sp hi e (fun na dn go nu st _ => ?_)
        rw [kj_bb_t z]
        exact br_f (by decide) (br_t hn ⟨rfl, M na dn go nu st⟩)
      · obtain ⟨p, hp, e2⟩ := nI_of hn
        refine br_f hn ⟨ini, ?_⟩
        refine pk_le (kj_ar d i) p (fun y => ?_) (fun y => ?_) ax e2 (by omega) hp
        · unfold wpY_could
          refine kj_ywell (v := v) hY sp hi e (fun na dn go nu st _ => ?_)
          rw [kj_bb_t z]
          exact br_f (by decide) (br_f hn ⟨ini, pk_le (kj_ar d i) p (fun _ => ⟨rfl, M na dn go nu st⟩) (fun x => by omega) ay e2 (by omega) hp⟩)
        · by_cases hn3 : v3 < 0
          · refine br_t hn3 ?_
            unfold wpY_could
            refine kj_ywell (v := v) hY sp hi e (fun na dn go nu st _ => ?_)
            rw [kj_bb_t z]
            exact br_f (by decide) (br_f hn ⟨ini, pk_le (kj_ar d i) p (fun x => by omega) (fun _ => br_t hn3 ⟨rfl, M na dn go nu st⟩) ay e2 (by omega) hp⟩)
          · by_cases h3 : v3 ≤ 3
            · obtain ⟨q, hq, e3⟩ := nI_of2 (x := v3) (M := 3) (n := 3) (by decide) hn3 h3
              refine br_f hn3 (br_t h3 ?_)
              subst e e2 e3
              have gS := kj_g_lt d (i := i) (by omega)
              have hSc : ∀ j, (kj_g d i).testBit j = true → j < kj_c d := fun j gj => kj_g_c ok hi gj
              have cl := kj_cell_of ok (kj_g_self ok i) y
              have q8 : 2 * i + p < 8 := by omega
              refine kj_xgrp (u := u') hX' J.1 hi ?_
              have mk : ∀ (y : Nat → Int32) (n : Int32) (s1 f r l t p' x a b na dn go nu st : Nat → Int32), i_Rel (k + 4) (kx_sS u' y n s1 f r l t p' x a b) ((ky_count v), (ky_params v), (ky_size v), (ky_tokens v), (na), (dn), (go), (nu), (st)) := fun y n s1 f r l t p' x a b na dn go nu st =>
                kj_mk (k + 4) (kx_sS u' y n s1 f r l t p' x a b) ((ky_count v), (ky_params v), (ky_size v), (ky_tokens v), (na), (dn), (go), (nu), (st)) d hX' (s.2.1.trans ha) hY (fun _ => kj_JW_D J)
              refine kj_xsolve (u := u') (d := d) (S := kj_g d i) (w := w) (N0 := N0) (pin := some (2 * i + p, q)) hX' ⟨gS, J.2.2.2.1, J.2.2.1, hSc, J.2.2.2.2.2.1, fun j gj => J.2.1 j (hSc j gj), fun a ga j nj => (sp i hi).1 z |>.1 j (kj_g_nd ok (kj_g_sym ok ga) nj)⟩
                (Or.inr ⟨2 * i + p, q, rfl, kj_2 p, rfl, q8, by omega, cl⟩) (fun y n s1 f r l t p' x a b tr B _ => ⟨kj_nb01 (Or.inr rfl), ?_⟩) (fun y n s1 f r l t p' x a b no => ⟨kj_nb01 (Or.inl rfl), ?_⟩)
              · have BO := kj_Best_OK ok hSc B
                have bp : kj_mix d (kj_g d i) tr N0 (2 * i + p) = q := (kj_mix_t cl).trans (B.2.2.1 _ _ rfl)
                exact kj_ycould hY sp hi z ‹_› (by omega) (fun na dn go nu st _ => ⟨rfl, mk y n s1 f r l t p' x a b na dn go nu st⟩) (fun na dn go nu st H => absurd BO.2 (H _ BO.1 bp))
              · refine kj_ycould hY sp hi z ‹_› (by omega) (fun na dn go nu st H => ?_) (fun na dn go nu st _ => ⟨rfl, mk y n s1 f r l t p' x a b na dn go nu st⟩)
                obtain ⟨num, o, eq, F⟩ := H
                exact absurd F (no num (kj_OK_Ad ok hSc o) (fun a b e => by injection e with e; injection e with e1 e2; rw [← e1, ← e2]; exact eq))
            · refine br_f hn3 (br_f h3 ?_)
              unfold wpY_could
              refine kj_ywell (v := v) hY sp hi e (fun na dn go nu st _ => ?_)
              rw [kj_bb_t z]
              exact br_f (by decide) (br_f hn ⟨ini, pk_le (kj_ar d i) p (fun x => by omega) (fun _ => br_f hn3 (br_f h3 ⟨rfl, M na dn go nu st⟩)) ay e2 (by omega) hp⟩)
    · rw [kj_bb_f z]
      refine br_t rfl ?_
      unfold wpY_could
      refine kj_ywell (v := v) hY sp hi e (fun na dn go nu st _ => ?_)
      rw [kj_bb_f z]
      exact br_t rfl ⟨rfl, M na dn go nu st⟩
end
section
/-! ===== applied ===== -/
/-- the number of a code, as both answer it -/
def kj_nof (x : Nat) : Int32 := if x = 5 then 2 else if x = 2 then 3 else if x = 0 then 0 else if x = 1 then 1 else -1
def kj_ans : Option Nat → Int32
  | none => -1
  | some x => kj_nof x
theorem kj_nof_co : ∀ k, k < 4 → kj_nof (kj_co k) = nI k := by decide +kernel
theorem kj_nof_no : ∀ x, x < 21 → (x = kj_co 0 ∨ x = kj_co 1 ∨ x = kj_co 2 ∨ x = kj_co 3) ∨ kj_nof x = -1 := by decide +kernel
theorem kj_nof_m {x : Nat} (h : x ≤ 20) (no : ∀ k, k < 4 → x ≠ kj_co k) : kj_nof x = -1 := by
  rcases kj_nof_no x (by omega) with (z | z | z | z) | z
  · exact absurd z (no 0 (by decide))
  · exact absurd z (no 1 (by decide))
  · exact absurd z (no 2 (by decide))
  · exact absurd z (no 3 (by decide))
  · exact z
theorem kj_ynum {post : Int32 → Prop} {v : SY} {o : Option Nat} (h : kj_o20 o) (K : post (kj_ans o)) : wpY_numberOf post v (kj_en1 o) := by
  cases o with
  | none => exact br_f (by decide) (br_f (by decide) (br_f (by decide) (br_f (by decide) K)))
  | some x =>
    have h' : x ≤ 20 := h
    have K' : post (kj_nof x) := K
    unfold kj_nof at K'
    refine pk_eq x 5 (fun z => ?_) (fun z => ?_) rfl rfl (by omega) (by decide)
    · rw [if_pos z] at K'; exact K'
    · rw [if_neg z] at K'
      refine pk_eq x 2 (fun y => ?_) (fun y => ?_) rfl rfl (by omega) (by decide)
      · rw [if_pos y] at K'; exact K'
      · rw [if_neg y] at K'
        refine pk_eq x 0 (fun w => ?_) (fun w => ?_) rfl rfl (by omega) (by decide)
        · rw [if_pos w] at K'; subst w; exact K'
        · rw [if_neg w] at K'
          refine pk_eq x 1 (fun t => ?_) (fun t => ?_) rfl rfl (by omega) (by decide)
          · rw [if_pos t] at K'; subst t; exact K'
          · rw [if_neg t] at K'; exact K'
theorem kj_cs_20 {d : kj_D} (ok : kj_ok d) {num : Nat → Nat} {n : Nat} (h : 4 ≤ n → ∀ p, p < kj_ar d (n - 4) → num (2 * (n - 4) + p) < 4) : kj_cs d num n ≤ 20 := by
  unfold kj_cs
  rcases Nat.lt_or_ge n 4 with x | x
  · rw [if_pos x]; exact kj_co_le _ x
  · rw [if_neg (by omega)]; exact kj_ty_le ok (h x)
theorem kj_yapp58 {post : Int32 → SY → Prop} {v : SY} {d : kj_D} {N0 : Nat → Nat} (h : kj_X d (ky_count v) (ky_params v) (ky_size v) (ky_tokens v)) {n m : Nat} (hn : n < 8) (hm : m < 8) (yn : 4 ≤ n → kj_yn d (ky_number v) N0 (n - 4)) (ym : 4 ≤ m → kj_yn d (ky_number v) N0 (m - 4))
    (K : post (kj_ans (kj_oap (some (kj_cs d N0 n)) (some (kj_cs d N0 m)))) v) : wY_applied_58 post (nI n) (nI m) (ky_count v) (ky_params v) (ky_size v) (ky_tokens v) (ky_need v) (ky_done v) (ky_good v) (ky_number v) (ky_stack v) := by
  have ok := h.1
  have n20 : kj_o20 (some (kj_cs d N0 n)) := kj_cs_20 ok (fun z p hp => (yn z p hp).2)
  have m20 : kj_o20 (some (kj_cs d N0 m)) := kj_cs_20 ok (fun z p hp => (ym z p hp).2)
  unfold wY_applied_58
  refine kj_ycons (v := v) h hn yn rfl ?_
  refine kj_ycons (v := v) h hm ym rfl ?_
  refine kj_yapply (v := v) n20 m20 rfl rfl ?_
  exact kj_ynum (v := v) (kj_oap_20 n20) K
/-- the two arguments may be asked, as Y sees it -/
def kj_ya (v : SY) (p0 p1 : Int32) : Prop := ∃ n m, p0 = nI n ∧ n < 8 ∧ p1 = nI m ∧ m < 8 ∧ (4 ≤ n → ¬ ky_good v (n - 4) = 0) ∧ (4 ≤ m → ¬ ky_good v (m - 4) = 0)
theorem kj_r8 {p : Int32} (h0 : ¬ p < 0) (h7 : ¬ 7 < p) : ∃ n, n < 8 ∧ p = nI n := by
  obtain ⟨n, hn, e⟩ := nI_of2 (x := p) (M := 7) (n := 7) (by decide) h0 (Int32.not_lt.mp h7)
  exact ⟨n, by omega, e⟩
theorem kj_yappG {post : Int32 → SY → Prop} {v : SY} (p0 p1 : Int32) (Kb : ¬ kj_ya v p0 p1 → post (-1) v) (K : kj_ya v p0 p1 → wY_applied_58 post p0 p1 (ky_count v) (ky_params v) (ky_size v) (ky_tokens v) (ky_need v) (ky_done v) (ky_good v) (ky_number v) (ky_stack v)) :
    ((p0 < 0 → (post (-1) ((ky_count v), (ky_params v), (ky_size v), (ky_tokens v), (ky_need v), (ky_done v), (ky_good v), (ky_number v), (ky_stack v)))) ∧ (¬ p0 < 0 → (((7 < p0 → (post (-1) ((ky_count v), (ky_params v), (ky_size v), (ky_tokens v), (ky_need v), (ky_done v), (ky_good v), (ky_number v), (ky_stack v)))) ∧ (¬ 7 < p0 → (((p1 < 0 → (post (-1) ((ky_count v), (ky_params v), (ky_size v), (ky_tokens v), (ky_need v), (ky_done v), (ky_good v), (ky_number v), (ky_stack v)))) ∧ (¬ p1 < 0 → (((7 < p1 → (post (-1) ((ky_count v), (ky_params v), (ky_size v), (ky_tokens v), (ky_need v), (ky_done v), (ky_good v), (ky_number v), (ky_stack v)))) ∧ (¬ 7 < p1 → (((p0 ≤ 3 → (wY_applied_40 post p0 p1 (ky_count v) (ky_params v) (ky_size v) (ky_tokens v) (ky_need v) (ky_done v) (ky_good v) (ky_number v) (ky_stack v))) ∧ (¬ p0 ≤ 3 → (vp_in (p0 - 4) 4 ∧ ((((ky_good v (p0 - 4).toNatClampNeg) = 0 → (post (-1) ((ky_count v), (ky_params v), (ky_size v), (ky_tokens v), (ky_need v), (ky_done v), (ky_good v), (ky_number v), (ky_stack v)))) ∧ (¬ (ky_good v (p0 - 4).toNatClampNeg) = 0 → (wY_applied_40 post p0 p1 (ky_count v) (ky_params v) (ky_size v) (ky_tokens v) (ky_need v) (ky_done v) (ky_good v) (ky_number v) (ky_stack v)))))))))))))))))))) := by
  have neg : ∀ {p : Int32} {n : Nat}, p < 0 → p = nI n → n < 8 → False := fun h e hn => by rw [e] at h; exact nI_pos (by omega) h
  have big : ∀ {p : Int32} {n : Nat}, 7 < p → p = nI n → n < 8 → False := fun h e hn => by
    rw [e] at h
    exact nI_nlt (a := 7) (by omega) (by decide) h
  refine br_c (fun z => Kb (fun ⟨n, m, a, b, c, e, _⟩ => neg z a b)) (fun h0 => br_c (fun z => Kb (fun ⟨n, m, a, b, c, e, _⟩ => big z a b)) (fun h1 => br_c (fun z => Kb (fun ⟨n, m, a, b, c, e, _⟩ => neg z c e)) (fun h2 => br_c (fun z => Kb (fun ⟨n, m, a, b, c, e, _⟩ => big z c e)) (fun h3 => ?_))))
  obtain ⟨n, hn, en⟩ := kj_r8 h0 h1
  obtain ⟨m, hm, em⟩ := kj_r8 h2 h3
  have uq : ∀ n' m', p0 = nI n' → n' < 8 → p1 = nI m' → m' < 8 → n' = n ∧ m' = m := fun n' m' a b c e => by
    rw [en, nI_eq (by omega) (by omega)] at a
    rw [em, nI_eq (by omega) (by omega)] at c
    exact ⟨a.symm, c.symm⟩
  have k40 : (4 ≤ n → ¬ ky_good v (n - 4) = 0) → wY_applied_40 post p0 p1 (ky_count v) (ky_params v) (ky_size v) (ky_tokens v) (ky_need v) (ky_done v) (ky_good v) (ky_number v) (ky_stack v) := fun gn => by
    refine pk_le m 3 (fun z => K ⟨n, m, en, hn, em, hm, gn, fun y => by omega⟩) (fun z => ?_) em rfl (by omega) (by decide)
    have e4 : p1 - 4 = nI (m - 4) := by rw [em]; exact pk_sub z
    refine ⟨kj_in e4 (by omega) (by decide), br_c (fun y => Kb (fun ⟨n', m', a, b, c, e, f, g⟩ => ?_)) (fun y => K ⟨n, m, en, hn, em, hm, gn, fun _ => ?_⟩)⟩
    · obtain ⟨x1, x2⟩ := uq n' m' a b c e
      subst x2
      rw [e4, kj_cl (by omega)] at y
      exact g z y
    · rw [e4, kj_cl (by omega)] at y; exact y
  refine pk_le n 3 (fun z => k40 (fun y => by omega)) (fun z => ?_) en rfl (by omega) (by decide)
  have e4 : p0 - 4 = nI (n - 4) := by rw [en]; exact pk_sub z
  refine ⟨kj_in e4 (by omega) (by decide), br_c (fun y => Kb (fun ⟨n', m', a, b, c, e, f, g⟩ => ?_)) (fun y => k40 (fun _ => ?_))⟩
  · obtain ⟨x1, x2⟩ := uq n' m' a b c e
    subst x1
    rw [e4, kj_cl (by omega)] at y
    exact f z y
  · rw [e4, kj_cl (by omega)] at y; exact y
/-- Y where X does not judge -/
theorem kj_yappW {post : Int32 → SY → Prop} {v : SY} {d : kj_D} (h : kj_X d (ky_count v) (ky_params v) (ky_size v) (ky_tokens v)) (p0 p1 : Int32) (Kb : ∀ na dn go nu st : Nat → Int32, (∀ j, kj_c d ≤ j → j < 4 → go j = 0) → ¬ kj_ya ((ky_count v), (ky_params v), (ky_size v), (ky_tokens v), (na), (dn), (go), (nu), (st)) p0 p1 → post (-1) ((ky_count v), (ky_params v), (ky_size v), (ky_tokens v), (na), (dn), (go), (nu), (st)))
    (K : ∀ na dn go nu st : Nat → Int32, (∀ j, kj_c d ≤ j → j < 4 → go j = 0) → kj_ya ((ky_count v), (ky_params v), (ky_size v), (ky_tokens v), (na), (dn), (go), (nu), (st)) p0 p1 → wY_applied_58 post p0 p1 (ky_count v) (ky_params v) (ky_size v) (ky_tokens v) (na) (dn) (go) (nu) (st)) : wpY_applied post v p0 p1 := by
  unfold wpY_applied
  refine kj_ysettleAllW (v := v) h (fun na dn go nu st z => ?_)
  exact kj_yappG (v := ((ky_count v), (ky_params v), (ky_size v), (ky_tokens v), (na), (dn), (go), (nu), (st))) p0 p1 (Kb na dn go nu st z) (K na dn go nu st z)
theorem kj_yappS {post : Int32 → SY → Prop} {v : SY} {d : kj_D} {w : Nat} {N0 : Nat → Nat} (h : kj_X d (ky_count v) (ky_params v) (ky_size v) (ky_tokens v)) (sp : ∀ i, i < kj_c d → kj_Sp d w N0 i) (p0 p1 : Int32) (Kb : ∀ na dn go nu st : Nat → Int32, kj_YJ d w N0 na go nu → ¬ kj_ya ((ky_count v), (ky_params v), (ky_size v), (ky_tokens v), (na), (dn), (go), (nu), (st)) p0 p1 → post (-1) ((ky_count v), (ky_params v), (ky_size v), (ky_tokens v), (na), (dn), (go), (nu), (st)))
    (K : ∀ na dn go nu st : Nat → Int32, kj_YJ d w N0 na go nu → kj_ya ((ky_count v), (ky_params v), (ky_size v), (ky_tokens v), (na), (dn), (go), (nu), (st)) p0 p1 → wY_applied_58 post p0 p1 (ky_count v) (ky_params v) (ky_size v) (ky_tokens v) (na) (dn) (go) (nu) (st)) : wpY_applied post v p0 p1 := by
  unfold wpY_applied
  refine kj_ysettleAll (v := v) h sp (fun na dn go nu st a1 a2 a3 => ?_)
  exact kj_yappG (v := ((ky_count v), (ky_params v), (ky_size v), (ky_tokens v), (na), (dn), (go), (nu), (st))) p0 p1 (Kb na dn go nu st ⟨a1, a2, a3⟩) (K na dn go nu st ⟨a1, a2, a3⟩)
end
section
/-! ===== applied: X ===== -/
theorem kj_cs_lo {d : kj_D} {num : Nat → Nat} {n : Nat} (h : n < 4) : kj_cs d num n = kj_co n := if_pos h
theorem kj_cs_hi {d : kj_D} {num : Nat → Nat} {n : Nat} (h : 4 ≤ n) : kj_cs d num n = kj_ty (kj_ar d) num (n - 4) := if_neg (by omega)
/-- n is a numbered kind, or a type whose numbers are held -/
def kj_kn (d : kj_D) (N0 : Nat → Nat) (st : Nat → Int32) (n : Nat) : Prop := n < 8 ∧ (4 ≤ n → n - 4 < kj_c d ∧ ∀ p, p < kj_ar d (n - 4) → st (2 * (n - 4) + p) = nI (N0 (2 * (n - 4) + p)) ∧ N0 (2 * (n - 4) + p) < 4)
theorem kj_xkn {post : Int32 → SX → Prop} {u : SX} {d : kj_D} {g : kj_G} {N0 : Nat → Nat} (h : kj_X d (kx_count u) (kx_arity u) (kx_sizes u) (kx_tokens u)) (G : kj_GR (kx_nodes u) (kx_sort u) (kx_left u) (kx_right u) (kx_link u) g) (hN : kj_N g ≤ 20) {n : Nat} (kn : kj_kn d N0 (kx_settled u) n)
    (K : ∀ (m : Int32) (s f r l tA pA : Nat → Int32) (g' : kj_G) (t : Nat), kj_GR m s f r l g' → kj_Ex g g' → kj_N g' ≤ kj_N g + 2 → t < kj_N g' → (∀ g2, kj_Ex g' g2 → kj_Gv g2 → kj_Cg g2 → kj_De g2 (kj_cs d N0 n) t) → (∀ V, kj_Md g' V → V t = kj_cs d N0 n) → (∀ V, kj_Md g V → ∃ V', kj_Md g' V' ∧ ∀ a, a < kj_N g → V' a = V a) →
      post (nI t) (kx_sP u m s f r l tA pA)) : wpX_kindNode post u (nI n) := by
  have ok := h.1
  have hc := ok.1
  have v := G.1.2.2.1
  have b4 := v.1.1
  have n8 := kn.1
  unfold wpX_kindNode
  refine pk_le 4 n (fun z => ?_) (fun z => ?_) rfl rfl (by decide) (by omega)
  · have e4 : nI n - 4 = nI (n - 4) := pk_sub z
    have q := kn.2 z
    have c4 : (nI (n - 4)).toNatClampNeg = n - 4 := kj_cl (by omega)
    rw [e4]
    refine kj_xset (u := u) (d := d) (g := g) h G (by omega) (by omega) (num := N0) q.2 (fun m s f r l pA g' t G' E hb e1 e2 T MM => ⟨vp_in_nI (by omega) (by decide), ?_⟩)
    have et : upd (kx_typeNode u) (n - 4) (nI t) (nI (n - 4)).toNatClampNeg = nI t := by rw [c4, pk_us]
    show post (upd (kx_typeNode u) (n - 4) (nI t) (nI (n - 4)).toNatClampNeg) _
    rw [et]
    refine K m s f r l (upd (kx_typeNode u) (n - 4) (nI t)) pA g' t G' E hb T.1 (fun g2 E2 v2 c2 => ?_) (fun V M => ?_) MM
    · rw [kj_cs_hi z]
      exact kj_TN_De ok v2 c2 (kj_TN_x E2 T) (fun p hp => ⟨(q.2 p hp).2, kj_De_b v2 c2 _ (q.2 p hp).2⟩)
    · rw [kj_cs_hi z]
      exact kj_TN_V ok G'.1.2.2.1 M T (fun p hp => ⟨(q.2 p hp).2, kj_Md_b G'.1.2.2.1 M _ (q.2 p hp).2⟩)
  · refine K (kx_nodes u) (kx_sort u) (kx_left u) (kx_right u) (kx_link u) (kx_typeNode u) (kx_parameterNode u) g n G (kj_Ex_rf g) (by omega) (by omega) (fun g2 _ v2 c2 => ?_) (fun V M => ?_) (fun V M => ⟨V, M, fun _ _ => rfl⟩)
    · rw [kj_cs_lo z]; exact kj_De_b v2 c2 n z
    · rw [kj_cs_lo z]; exact kj_Md_b v M n z
theorem kj_g0_Md : kj_Md kj_g0 kj_co := by
  have D : ∀ n, n < 4 → kj_co n ≤ 20 ∧ (kj_so kj_g0 n = 1 → kj_co n = 0) ∧ (kj_so kj_g0 n = 2 → kj_co n ≠ 0 ∧ kj_L (kj_co n) = kj_co (kj_le kj_g0 n) ∧ kj_R (kj_co n) = kj_co (kj_ri kj_g0 n)) ∧ kj_co n = kj_co (kj_rt kj_g0 n) := by decide
  exact D
theorem kj_xappl {post : Int32 → SX → Prop} {u : SX} {d : kj_D} {N0 : Nat → Nat} (h : kj_X d (kx_count u) (kx_arity u) (kx_sizes u) (kx_tokens u)) {n m : Nat} (kn : kj_kn d N0 (kx_settled u) n) (km : kj_kn d N0 (kx_settled u) m)
    (K : ∀ (q : Int32) (s f r l t p a b : Nat → Int32), post (kj_ans (kj_oap (some (kj_cs d N0 n)) (some (kj_cs d N0 m)))) (kx_sS u (kx_trial u) q s f r l t p (kx_values u) a b)) :
    wpX_startNodes (fun u1 => wpX_kindNode (fun r1 u2 => wpX_kindNode (fun r2 u3 => wpX_apply (fun r3 u4 => ((0 ≤ r3 → wpX_numberOf (fun r4 => post r4 u4) u4 r3) ∧ (¬ 0 ≤ r3 → post (-1) u4))) u3 r1 r2) u2 (nI m)) u1 (nI n)) u := by
  have ok := h.1
  refine kj_xstart (u := u) (fun s0 f0 r0 l0 G0 => ?_)
  refine kj_xkn (u := ((kx_count u), (kx_all u), (kx_judged u), (kx_settledSet u), (kx_wellSet u), (nI 4), (kx_arity u), (kx_sizes u), (kx_tokens u), (kx_finished u), (kx_fieldCount u), (kx_need u), (kx_settled u), (kx_trial u), (s0), (f0), (r0), (l0), (kx_typeNode u), (kx_parameterNode u), (kx_values u), (kx_todoA u), (kx_todoB u))) (d := d) (g := kj_g0) (N0 := N0) h G0 (by decide) kn (fun q1 s1 f1 r1 l1 t1 p1 g1 tf G1 E1 b1 lt1 D1 V1 M1 => ?_)
  have b1' : kj_N g1 ≤ 4 + 2 := b1
  refine kj_xkn (u := kx_sP u q1 s1 f1 r1 l1 t1 p1) (d := d) (g := g1) (N0 := N0) h G1 (by omega) km (fun q2 s2 f2 r2 l2 t2 p2 g2 ta G2 E2 b2 lt2 D2 V2 M2 => ?_)
  obtain ⟨Va, Ma, ea⟩ := M1 _ kj_g0_Md
  obtain ⟨Vb, Mb, eb⟩ := M2 Va Ma
  have vf : Vb tf = kj_cs d N0 n := (eb tf lt1).trans (V1 Va Ma)
  have va : Vb ta = kj_cs d N0 m := V2 Vb Mb
  have ltf : tf < kj_N g2 := Nat.lt_of_lt_of_le lt1 E2.1
  refine kj_xapply (u := kx_sP u q2 s2 f2 r2 l2 t2 p2) (g := g2) G2 (by omega) ltf lt2 rfl rfl (fun q3 s3 f3 r3 l3 ta3 tb3 g3 G3 A => ?_) (fun q3 s3 f3 r3 l3 ta3 tb3 H => ?_)
  · have v3 := G3.1.2.2.1
    have c3 := G3.2.1
    have DF := D1 g3 (kj_Ex_tr E2 A.1) v3 c3
    have DA := D2 g3 A.1 v3 c3
    have iv := kj_De_iv v3 c3 (by rw [A.2.1]; omega) A.2.2.1.1 (kj_De_rt A.2.2.2.1 DF)
    rw [A.2.2.1.2.1, A.2.2.1.2.2] at iv
    have eca : kj_cs d N0 m = kj_L (kj_cs d N0 n) := kj_De_fn DA iv.2.2.1
    have eo : kj_oap (some (kj_cs d N0 n)) (some (kj_cs d N0 m)) = some (kj_R (kj_cs d N0 n)) := if_pos ⟨iv.1, eca⟩
    rw [eo] at K
    obtain ⟨Vc, Mc, ec, er⟩ := A.2.2.2.2 Vb Mb (by rw [vf]; exact iv.1) (by rw [va, vf]; exact eca)
    rw [vf] at er
    have lq : kj_N g2 < kj_N g3 := by rw [A.2.1]; omega
    refine br_t (nI_pos' (by omega)) ?_
    refine kj_xnum (u := kx_sG (kx_sP u q2 s2 f2 r2 l2 t2 p2) q3 s3 f3 r3 l3 ta3 tb3) (g := g3) G3 lq rfl (fun k hk D => ?_) (fun Z => ?_)
    · have e : kj_co k = kj_R (kj_cs d N0 n) := kj_De_fn D iv.2.2.2
      have k1 := K q3 s3 f3 r3 l3 t2 p2 ta3 tb3
      have e2 : kj_ans (some (kj_R (kj_cs d N0 n))) = nI k := by
        show kj_nof _ = _
        rw [← e]; exact kj_nof_co k hk
      rw [e2] at k1
      exact k1
    · have k1 := K q3 s3 f3 r3 l3 t2 p2 ta3 tb3
      have e2 : kj_ans (some (kj_R (kj_cs d N0 n))) = -1 := by
        show kj_nof _ = _
        refine kj_nof_m (kj_R_le _ (by omega)) (fun k hk e => Z Vc Mc k hk (er.trans e))
      rw [e2] at k1
      exact k1
  · have eo : kj_oap (some (kj_cs d N0 n)) (some (kj_cs d N0 m)) = none := if_neg (fun q => H Vb Mb (by rw [vf]; exact q.1) (by rw [va, vf]; exact q.2))
    rw [eo] at K
    exact br_f (by decide) (K q3 s3 f3 r3 l3 t2 p2 ta3 tb3)
theorem kj_xknown {post : Int32 → SX → Prop} {u : SX} {d : kj_D} (h : kj_X d (kx_count u) (kx_arity u) (kx_sizes u) (kx_tokens u)) (hj : ¬ kx_judged u = 0 → kj_JD d (kx_need u) (kx_wellSet u) (kx_settled u) (kx_finished u)) (p : Int32) (Ka : (∀ n, n < 8 → p ≠ nI n) → post 0 u) (Kb : ∀ n, n < 4 → p = nI n → post 1 u) (Kc : ∀ n, 4 ≤ n → n < 8 → p = nI n → kj_c d ≤ n - 4 → post 0 u)
    (Kd : ∀ n, 4 ≤ n → n < 8 → p = nI n → n - 4 < kj_c d → ∀ (u' : SX) (w : Nat) (N0 : Nat → Nat), kj_St u u' → ¬ kx_judged u' = 0 → kj_JW d w N0 (kx_need u') (kx_wellSet u') (kx_settled u') (kx_finished u') → post (kj_bb w (n - 4)) u') : wpX_known post u p := by
  have ok := h.1
  have hc := ok.1
  refine br_c (fun z => ?_) (fun z => ?_)
  · have z4 : p < 4 := Int32.lt_of_lt_of_le z (by decide)
    exact br_t z4 (Ka (fun n hn e => by rw [e] at z; exact nI_pos (by omega) z))
  · obtain ⟨n, hn, e⟩ := nI_of z
    subst e
    refine pk_lt n 4 (fun y => Kb n y rfl) (fun y => ?_) rfl rfl hn (by decide)
    refine br_f (nI_nlt (b := 4) y hn) ?_
    refine pk_le 8 n (fun x => Ka (fun n' hn' e' => ?_)) (fun x => ?_) rfl rfl (by decide) hn
    · rw [nI_eq hn (by omega)] at e'; omega
    · have e4 : nI n - 4 = nI (n - 4) := pk_sub y
      refine kj_xwell (u := u) h hj (nI n - 4) (fun no => br_t rfl (Kc n y x rfl ?_)) (fun i hi e u' w N0 s nj J => ?_)
      · rcases Nat.lt_or_ge (n - 4) (kj_c d) with t | t
        · exact absurd e4 (no (n - 4) t)
        · exact t
      · rw [e4, nI_eq (by omega) (by omega)] at e
        subst e
        have k := Kd n y x rfl hi u' w N0 s nj J
        rcases Classical.em (w.testBit (n - 4) = true) with t | t
        · rw [kj_bb_t t] at k ⊢; exact br_f (by decide) k
        · rw [kj_bb_f t] at k ⊢; exact br_t rfl k
/-- once X has judged, known only looks -/
theorem kj_xknownJ {post : Int32 → SX → Prop} {u : SX} {d : kj_D} {w : Nat} {N0 : Nat → Nat} (h : kj_X d (kx_count u) (kx_arity u) (kx_sizes u) (kx_tokens u)) (nj : ¬ kx_judged u = 0) (J : kj_JW d w N0 (kx_need u) (kx_wellSet u) (kx_settled u) (kx_finished u)) (p : Int32) (Ka : (∀ n, n < 8 → p ≠ nI n) → post 0 u) (Kb : ∀ n, n < 4 → p = nI n → post 1 u) (Kc : ∀ n, 4 ≤ n → n < 8 → p = nI n → kj_c d ≤ n - 4 → post 0 u)
    (Kd : ∀ n, 4 ≤ n → n < 8 → p = nI n → n - 4 < kj_c d → post (kj_bb w (n - 4)) u) : wpX_known post u p := by
  have ok := h.1
  have hc := ok.1
  refine br_c (fun z => ?_) (fun z => ?_)
  · have z4 : p < 4 := Int32.lt_of_lt_of_le z (by decide)
    exact br_t z4 (Ka (fun n hn e => by rw [e] at z; exact nI_pos (by omega) z))
  · obtain ⟨n, hn, e⟩ := nI_of z
    subst e
    refine pk_lt n 4 (fun y => Kb n y rfl) (fun y => ?_) rfl rfl hn (by decide)
    refine br_f (nI_nlt (b := 4) y hn) ?_
    refine pk_le 8 n (fun x => Ka (fun n' hn' e' => ?_)) (fun x => ?_) rfl rfl (by decide) hn
    · rw [nI_eq hn (by omega)] at e'; omega
    · have e4 : nI n - 4 = nI (n - 4) := pk_sub y
      unfold wpX_well
      refine kj_xdecl (u := u) h (nI n - 4) (fun i hi e => br_f (by decide) (br_f nj ?_)) (fun no => br_t rfl (br_t rfl (Kc n y x rfl ?_)))
      · have ei : i = n - 4 := by rw [e4, nI_eq (by omega) (by omega)] at e; exact e.symm
        have hi' : n - 4 < kj_c d := by omega
        have k := Kd n y x rfl hi'
        refine kj_b0 w (n - 4) J.2.2.1 e4 J.2.2.2.1 (by omega) (fun t => ?_) (fun t => ?_)
        · rw [kj_bb_f (kj_tt t)] at k; exact br_t rfl k
        · rw [kj_bb_t t] at k; exact br_f (by decide) k
      · rcases Nat.lt_or_ge (n - 4) (kj_c d) with t | t
        · exact absurd e4 (no (n - 4) t)
        · exact t
end
section
/-! ===== applied: the two together ===== -/
theorem kj_yaW {v : SY} {d : kj_D} {post : Int32 → SY → Prop} (h : kj_X d (ky_count v) (ky_params v) (ky_size v) (ky_tokens v)) {p0 p1 : Int32} (no : ∀ n m, p0 = nI n → n < 8 → p1 = nI m → m < 8 → (4 ≤ n ∧ kj_c d ≤ n - 4) ∨ (4 ≤ m ∧ kj_c d ≤ m - 4)) (K : ∀ na dn go nu st : Nat → Int32, post (-1) ((ky_count v), (ky_params v), (ky_size v), (ky_tokens v), (na), (dn), (go), (nu), (st))) : wpY_applied post v p0 p1 := by
  refine kj_yappW h p0 p1 (fun na dn go nu st _ _ => K na dn go nu st) (fun na dn go nu st z y => ?_)
  obtain ⟨n, m, a, b, c, e, f, g⟩ := y
  rcases no n m a b c e with q | q
  · exact absurd (z (n - 4) q.2 (by omega)) (f q.1)
  · exact absurd (z (m - 4) q.2 (by omega)) (g q.1)
theorem kj_yaS {v : SY} {d : kj_D} {w : Nat} {N0 : Nat → Nat} {post : Int32 → SY → Prop} (h : kj_X d (ky_count v) (ky_params v) (ky_size v) (ky_tokens v)) (sp : ∀ i, i < kj_c d → kj_Sp d w N0 i) {p0 p1 : Int32} (no : ∀ n m, p0 = nI n → n < 8 → p1 = nI m → m < 8 → (4 ≤ n ∧ n - 4 < kj_c d ∧ ¬ w.testBit (n - 4) = true) ∨ (4 ≤ m ∧ m - 4 < kj_c d ∧ ¬ w.testBit (m - 4) = true)) (K : ∀ na dn go nu st : Nat → Int32, post (-1) ((ky_count v), (ky_params v), (ky_size v), (ky_tokens v), (na), (dn), (go), (nu), (st))) : wpY_applied post v p0 p1 := by
  refine kj_yappS h sp p0 p1 (fun na dn go nu st _ _ => K na dn go nu st) (fun na dn go nu st Y y => ?_)
  obtain ⟨n, m, a, b, c, e, f, g⟩ := y
  rcases no n m a b c e with q | q
  · exact absurd ((Y.2.1 _ q.2.1).1.trans (kj_bb_f q.2.2)) (f q.1)
  · exact absurd ((Y.2.1 _ q.2.1).1.trans (kj_bb_f q.2.2)) (g q.1)
theorem kj_yaOK {v : SY} {d : kj_D} {w : Nat} {N0 : Nat → Nat} {post : Int32 → SY → Prop} (h : kj_X d (ky_count v) (ky_params v) (ky_size v) (ky_tokens v)) (sp : ∀ i, i < kj_c d → kj_Sp d w N0 i) {n m : Nat} (hn : n < 8) (hm : m < 8) (wn : 4 ≤ n → n - 4 < kj_c d ∧ w.testBit (n - 4) = true) (wm : 4 ≤ m → m - 4 < kj_c d ∧ w.testBit (m - 4) = true)
    (K : ∀ na dn go nu st : Nat → Int32, post (kj_ans (kj_oap (some (kj_cs d N0 n)) (some (kj_cs d N0 m)))) ((ky_count v), (ky_params v), (ky_size v), (ky_tokens v), (na), (dn), (go), (nu), (st))) : wpY_applied post v (nI n) (nI m) := by
  refine kj_yappS h sp (nI n) (nI m) (fun na dn go nu st Y y => ?_) (fun na dn go nu st Y _ => ?_)
  · refine absurd ?_ y
    refine ⟨n, m, rfl, hn, rfl, hm, fun z => ?_, fun z => ?_⟩
    · show ¬ go (n - 4) = 0
      rw [(Y.2.1 _ (wn z).1).1]; exact kj_bb_n.mpr (wn z).2
    · show ¬ go (m - 4) = 0
      rw [(Y.2.1 _ (wm z).1).1]; exact kj_bb_n.mpr (wm z).2
  · exact kj_yapp58 (v := ((ky_count v), (ky_params v), (ky_size v), (ky_tokens v), (na), (dn), (go), (nu), (st))) h hn hm (fun z => (Y.2.1 _ (wn z).1).2 (wn z).2) (fun z => (Y.2.1 _ (wm z).1).2 (wm z).2) (K na dn go nu st)
theorem kj_yaLo {v : SY} {d : kj_D} {N0 : Nat → Nat} {post : Int32 → SY → Prop} (h : kj_X d (ky_count v) (ky_params v) (ky_size v) (ky_tokens v)) {n m : Nat} (hn : n < 4) (hm : m < 4)
    (K : ∀ na dn go nu st : Nat → Int32, post (kj_ans (kj_oap (some (kj_cs d N0 n)) (some (kj_cs d N0 m)))) ((ky_count v), (ky_params v), (ky_size v), (ky_tokens v), (na), (dn), (go), (nu), (st))) : wpY_applied post v (nI n) (nI m) := by
  refine kj_yappW h (nI n) (nI m) (fun na dn go nu st _ y => ?_) (fun na dn go nu st _ _ => ?_)
  · exact absurd ⟨n, m, rfl, by omega, rfl, by omega, fun z => by omega, fun z => by omega⟩ y
  · exact kj_yapp58 (v := ((ky_count v), (ky_params v), (ky_size v), (ky_tokens v), (na), (dn), (go), (nu), (st))) (N0 := N0) h (by omega) (by omega) (fun z => by omega) (fun z => by omega) (K na dn go nu st)
/-- two numbers below 8 that are the same argument are one -/
theorem kj_e8 {p : Int32} {n n' : Nat} (e : p = nI n) (hn : n < 8) (e' : p = nI n') (hn' : n' < 8) : n' = n := by
  rw [e, nI_eq (by omega) (by omega)] at e'
  exact e'.symm
theorem i_vc_applied {k : Nat} {u : SX} {v : SY} (I : i_Rel k u v) (hk : k + 4 ≤ 2048) (v1 : Int32) (v2 : Int32) : wpX_applied (fun r u' => wpY_applied (fun r' v' => r' = r ∧ i_Rel (k + 4) u' v') v v1 v2) u v1 v2 := by
  have I0 := I
  obtain ⟨d, hX, ha, hY, hJ⟩ := I
  have ok := hX.1
  have hc := ok.1
  have YI := fun na dn go nu st => kj_mkY I0 na dn go nu st
  unfold wpX_applied
  refine kj_xknown (u := u) hX hJ v1 (fun no => br_t rfl ?_) (fun n hn e1 => br_f (by decide) ?_) (fun n h4 hn e1 hcn => br_t rfl ?_) (fun n h4 hn e1 hcn u' w N0 s nj J => ?_)
  · exact kj_yaW hY (fun n m a b _ _ => absurd a (no n b)) (fun na dn go nu st => ⟨rfl, YI na dn go nu st⟩)
  · refine kj_xknown (u := u) hX hJ v2 (fun no => br_t rfl ?_) (fun m hm e2 => br_f (by decide) ?_) (fun m m4 hm e2 hcm => br_t rfl ?_) (fun m m4 hm e2 hcm u' w N0 s nj J => ?_)
    · exact kj_yaW hY (fun n m _ _ a b => absurd a (no m b)) (fun na dn go nu st => ⟨rfl, YI na dn go nu st⟩)
    · subst e1 e2
      refine kj_xappl (u := u) (d := d) (N0 := fun _ => 0) hX (n := n) (m := m) ⟨by omega, fun z => by omega⟩ ⟨by omega, fun z => by omega⟩ (fun q s f r l t p a b => ?_)
      exact kj_yaLo hY hn hm (fun na dn go nu st => ⟨rfl, kj_mk (k + 4) (kx_sS u (kx_trial u) q s f r l t p (kx_values u) a b) ((ky_count v), (ky_params v), (ky_size v), (ky_tokens v), (na), (dn), (go), (nu), (st)) d hX ha hY hJ⟩)
    · exact kj_yaW hY (fun n' m' _ _ a b => Or.inr (by rw [kj_e8 e2 hm a b]; exact ⟨m4, hcm⟩)) (fun na dn go nu st => ⟨rfl, YI na dn go nu st⟩)
    · have sp := J.2.2.2.2.2.2
      have hX' := kj_St_X s hX
      rcases Classical.em (w.testBit (m - 4) = true) with z | z
      · rw [kj_bb_t z]
        refine br_f (by decide) ?_
        subst e1 e2
        refine kj_xappl (u := u') (d := d) (N0 := N0) hX' (n := n) (m := m) ⟨by omega, fun y => by omega⟩ ⟨hm, fun _ => ⟨hcm, J.2.2.2.2.2.1 _ hcm z⟩⟩ (fun q s1 f r l t p a b => ?_)
        exact kj_yaOK hY sp (by omega) hm (fun y => by omega) (fun _ => ⟨hcm, z⟩) (fun na dn go nu st => ⟨rfl, kj_mk (k + 4) (kx_sS u' (kx_trial u') q s1 f r l t p (kx_values u') a b) ((ky_count v), (ky_params v), (ky_size v), (ky_tokens v), (na), (dn), (go), (nu), (st)) d hX' (s.2.1.trans ha) hY (fun _ => kj_JW_D J)⟩)
      · rw [kj_bb_f z]
        refine br_t rfl ?_
        exact kj_yaS hY sp (fun n' m' _ _ a b => Or.inr (by rw [kj_e8 e2 hm a b]; exact ⟨m4, hcm, z⟩)) (fun na dn go nu st => ⟨rfl, kj_mkW hX ha hY s J na dn go nu st⟩)
  · exact kj_yaW hY (fun n' m' a b _ _ => Or.inl (by rw [kj_e8 e1 hn a b]; exact ⟨h4, hcn⟩)) (fun na dn go nu st => ⟨rfl, YI na dn go nu st⟩)
  · have sp := J.2.2.2.2.2.2
    have hX' := kj_St_X s hX
    have YW := fun na dn go nu st => kj_mkW (k := k) hX ha hY s J na dn go nu st
    rcases Classical.em (w.testBit (n - 4) = true) with z | z
    · rw [kj_bb_t z]
      refine br_f (by decide) ?_
      refine kj_xknownJ (u := u') hX' nj J v2 (fun no => br_t rfl ?_) (fun m hm e2 => br_f (by decide) ?_) (fun m m4 hm e2 hcm => br_t rfl ?_) (fun m m4 hm e2 hcm => ?_)
      · exact kj_yaW hY (fun n m _ _ a b => absurd a (no m b)) (fun na dn go nu st => ⟨rfl, YW na dn go nu st⟩)
      · subst e1 e2
        refine kj_xappl (u := u') (d := d) (N0 := N0) hX' (n := n) (m := m) ⟨hn, fun _ => ⟨hcn, J.2.2.2.2.2.1 _ hcn z⟩⟩ ⟨by omega, fun y => by omega⟩ (fun q s1 f r l t p a b => ?_)
        exact kj_yaOK hY sp hn (by omega) (fun _ => ⟨hcn, z⟩) (fun y => by omega) (fun na dn go nu st => ⟨rfl, kj_mk (k + 4) (kx_sS u' (kx_trial u') q s1 f r l t p (kx_values u') a b) ((ky_count v), (ky_params v), (ky_size v), (ky_tokens v), (na), (dn), (go), (nu), (st)) d hX' (s.2.1.trans ha) hY (fun _ => kj_JW_D J)⟩)
      · exact kj_yaW hY (fun n' m' _ _ a b => Or.inr (by rw [kj_e8 e2 hm a b]; exact ⟨m4, hcm⟩)) (fun na dn go nu st => ⟨rfl, YW na dn go nu st⟩)
      · rcases Classical.em (w.testBit (m - 4) = true) with y | y
        · rw [kj_bb_t y]
          refine br_f (by decide) ?_
          subst e1 e2
          refine kj_xappl (u := u') (d := d) (N0 := N0) hX' (n := n) (m := m) ⟨hn, fun _ => ⟨hcn, J.2.2.2.2.2.1 _ hcn z⟩⟩ ⟨hm, fun _ => ⟨hcm, J.2.2.2.2.2.1 _ hcm y⟩⟩ (fun q s1 f r l t p a b => ?_)
          exact kj_yaOK hY sp hn hm (fun _ => ⟨hcn, z⟩) (fun _ => ⟨hcm, y⟩) (fun na dn go nu st => ⟨rfl, kj_mk (k + 4) (kx_sS u' (kx_trial u') q s1 f r l t p (kx_values u') a b) ((ky_count v), (ky_params v), (ky_size v), (ky_tokens v), (na), (dn), (go), (nu), (st)) d hX' (s.2.1.trans ha) hY (fun _ => kj_JW_D J)⟩)
        · rw [kj_bb_f y]
          refine br_t rfl ?_
          exact kj_yaS hY sp (fun n' m' _ _ a b => Or.inr (by rw [kj_e8 e2 hm a b]; exact ⟨m4, hcm, y⟩)) (fun na dn go nu st => ⟨rfl, YW na dn go nu st⟩)
    · rw [kj_bb_f z]
      refine br_t rfl ?_
      exact kj_yaS hY sp (fun n' m' a b _ _ => Or.inl (by rw [kj_e8 e1 hn a b]; exact ⟨h4, hcn, z⟩)) (fun na dn go nu st => ⟨rfl, YW na dn go nu st⟩)
end
