section
theorem pk_us {f : Nat → Int32} {k : Nat} {x : Int32} : upd f k x k = x := if_pos rfl
theorem pk_un {f : Nat → Int32} {k j : Nat} {x : Int32} (h : j ≠ k) : upd f k x j = f j := if_neg h
theorem pk_uLs {f : Nat → Int64} {k : Nat} {x : Int64} : vp_updL f k x k = x := if_pos rfl
theorem pk_uLn {f : Nat → Int64} {k j : Nat} {x : Int64} (h : j ≠ k) : vp_updL f k x j = f j := if_neg h
theorem pk_sub {a b : Nat} (h : b ≤ a) : nI a - nI b = nI (a - b) := by
  obtain ⟨c, rfl⟩ : ∃ c, a = c + b := ⟨a - b, by omega⟩
  rw [← nI_add, Int32.add_sub_cancel, Nat.add_sub_cancel]
theorem pk_m1 (n : Nat) : nI (n + 1) + (-1) = nI n := by
  rw [← nI_1, Int32.add_assoc, show (1 : Int32) + (-1) = 0 from rfl, Int32.add_zero]
theorem pk_mul (a b : Nat) : nI a * nI b = nI (a * b) := (Int32.ofNat_mul a b).symm
theorem pk_div {a d : Nat} (ha : a < 2 ^ 31) (h0 : 0 < d) (hd : d < 2 ^ 31) : nI a / nI d = nI (a / d) := by
  apply Int32.toInt_inj.mp
  rw [lg_idiv_nonneg (by rw [nI_toInt ha]; omega) (by rw [nI_toInt hd]; omega), nI_toInt ha, nI_toInt hd, nI_toInt (Nat.lt_of_le_of_lt (Nat.div_le_self a d) ha)]
  first | rfl | exact (Int.natCast_ediv _ _).symm
theorem pk_rem {a d : Nat} (ha : a < 2 ^ 31) (h0 : 0 < d) (hd : d < 2 ^ 31) : nI a - nI a / nI d * nI d = nI (a % d) := by
  rw [pk_div ha h0 hd, pk_mul, pk_sub (Nat.div_mul_le_self a d)]
  exact congrArg nI (by have := Nat.div_add_mod' a d; omega)
theorem pk_sub_toInt {a b : Nat} (ha : a < 2 ^ 30) (hb : b < 2 ^ 30) : (nI a - nI b).toInt = (a : Int) - b := by
  rw [Int32.toInt_sub, nI_toInt (by omega), nI_toInt (by omega)]
  exact Int.bmod_eq_of_le (by omega) (by omega)
theorem pk_sneg {a b : Nat} (hb : b < 2 ^ 30) (h : a < b) : nI a - nI b < 0 := by
  rw [Int32.lt_iff_toInt_lt, pk_sub_toInt (by omega) hb, show (0 : Int32).toInt = 0 from by decide]
  omega
theorem pk_ix (x : Int32) {n : Nat} (hn : n < 2 ^ 31) : x < 0 ∨ nI n ≤ x ∨ ∃ j : Nat, j < n ∧ x = nI j := by
  by_cases h : x < 0
  · exact Or.inl h
  · obtain ⟨j, hj, rfl⟩ := nI_of h
    by_cases h2 : j < n
    · exact Or.inr (Or.inr ⟨j, h2, rfl⟩)
    · exact Or.inr (Or.inl (nI_le (by omega) hj))
theorem pk_le {x y : Int32} {A B : Prop} (a b : Nat) (f : a ≤ b → A) (g : b < a → B) (hx : x = nI a := by rfl) (hy : y = nI b := by rfl) (ha : a < 2 ^ 31 := by omega) (hb : b < 2 ^ 31 := by omega) : (x ≤ y → A) ∧ (¬ x ≤ y → B) := by
  subst hx hy
  rw [nI_leI ha hb]
  exact ⟨f, fun z => g (by omega)⟩
theorem pk_lt {x y : Int32} {A B : Prop} (a b : Nat) (f : a < b → A) (g : b ≤ a → B) (hx : x = nI a := by rfl) (hy : y = nI b := by rfl) (ha : a < 2 ^ 31 := by omega) (hb : b < 2 ^ 31 := by omega) : (x < y → A) ∧ (¬ x < y → B) := by
  subst hx hy
  rw [nI_ltI ha hb]
  exact ⟨f, fun z => g (by omega)⟩
theorem pk_eq {x y : Int32} {A B : Prop} (a b : Nat) (f : a = b → A) (g : a ≠ b → B) (hx : x = nI a := by rfl) (hy : y = nI b := by rfl) (ha : a < 2 ^ 31 := by omega) (hb : b < 2 ^ 31 := by omega) : (x = y → A) ∧ (¬ x = y → B) := by
  subst hx hy
  rw [nI_eq ha hb]
  exact ⟨f, g⟩
theorem pk_in {x : Int32} (n N : Nat) (h : n < N) (hx : x = nI n := by rfl) (hN : N < 2 ^ 31 := by omega) : vp_in x N := by
  subst hx
  exact vp_in_nI h hN
theorem pk_cl {x : Int32} (n : Nat) (hx : x = nI n := by rfl) (h : n < 2 ^ 31 := by omega) : x.toNatClampNeg = n := by
  subst hx
  exact nI_clamp h
theorem pk_tn {n : Nat} (h : n < 2 ^ 32) : (nI n).toBitVec.toNat = n := Nat.mod_eq_of_lt h
theorem pk_and (x : Int32) {m : Int32} (k : Nat) (hm : m.toBitVec.toNat = 2 ^ k - 1) : x &&& m = nI (x.toBitVec.toNat % 2 ^ k) := by
  apply Int32.toBitVec_inj.mp
  apply BitVec.eq_of_toNat_eq
  rw [Int32.toBitVec_and, BitVec.toNat_and, hm, Nat.and_two_pow_sub_one_eq_mod]
  show _ = (BitVec.ofNat 32 _).toNat
  rw [BitVec.toNat_ofNat]
  exact (Nat.mod_eq_of_lt (Nat.lt_of_le_of_lt (Nat.mod_le _ _) x.toBitVec.isLt)).symm
theorem pk_andN {n : Nat} (h : n < 2 ^ 32) {m : Int32} (k : Nat) (hm : m.toBitVec.toNat = 2 ^ k - 1) : nI n &&& m = nI (n % 2 ^ k) := by
  rw [pk_and _ k hm, pk_tn h]
theorem pk_andE (x : Int32) {m : Int32} (k : Nat) (hm : m.toBitVec.toNat = 2 ^ k - 1) : ∃ j : Nat, j < 2 ^ k ∧ x &&& m = nI j := ⟨_, Nat.mod_lt _ (Nat.two_pow_pos k), pk_and x k hm⟩
theorem pk_shl (a s : Int32) (k : Nat) (hs : (s.toBitVec.smod 32).toNat = k) : (a <<< s).toBitVec.toNat = a.toBitVec.toNat * 2 ^ k % 2 ^ 32 := by
  show (a.toBitVec <<< (s.toBitVec.smod 32).toNat).toNat = _
  rw [hs, BitVec.toNat_shiftLeft, Nat.shiftLeft_eq]
theorem pk_shlN {n : Nat} (s : Int32) (k : Nat) (hs : (s.toBitVec.smod 32).toNat = k) (h : n * 2 ^ k < 2 ^ 32) : nI n <<< s = nI (n * 2 ^ k) := by
  apply Int32.toBitVec_inj.mp
  apply BitVec.eq_of_toNat_eq
  have hn : n < 2 ^ 32 := Nat.lt_of_le_of_lt (Nat.le_mul_of_pos_right n (Nat.two_pow_pos k)) h
  rw [pk_shl _ _ k hs, pk_tn hn, pk_tn h, Nat.mod_eq_of_lt h]
theorem pk_shr (a s : Int32) (k : Nat) (hs : (s.toBitVec.smod 32).toNat = k) : (a >>> s).toInt = a.toInt >>> k := by
  show (a.toBitVec.sshiftRight (s.toBitVec.smod 32).toNat).toInt = _
  rw [hs, BitVec.toInt_sshiftRight]
  rfl
theorem pk_shrN {n : Nat} (h : n < 2 ^ 31) (s : Int32) (k : Nat) (hs : (s.toBitVec.smod 32).toNat = k) : nI n >>> s = nI (n / 2 ^ k) := by
  apply Int32.toInt_inj.mp
  have h2 : n / 2 ^ k ≤ n := Nat.div_le_self _ _
  rw [pk_shr _ _ k hs, nI_toInt h, nI_toInt (by omega), Int.shiftRight_eq_div_pow]
  rfl
theorem pk_lT {n : Nat} (h : n < 2 ^ 63) : (lN n).toInt = (n : Int) := lg_ofNat_toInt h
theorem pk_lEQ {a b : Nat} (ha : a < 2 ^ 63) (hb : b < 2 ^ 63) : lN a = lN b ↔ a = b := by
  rw [← Int64.toInt_inj, pk_lT ha, pk_lT hb]; omega
theorem pk_loop {σ : Type} (W : Nat → Nat → σ → Prop) (I : Nat → σ → Prop) (e i0 : Nat) (s : σ) (hi : i0 ≤ e) (h0 : I i0 s) (hx : ∀ n s, I e s → W (n + 1) e s)
    (hs : ∀ n i s, i < e → I i s → (∀ s', I (i + 1) s' → W n (i + 1) s') → W (n + 1) i s) : ∃ n, W n i0 s :=
  ⟨e + 1, loop_i W I e hx hs (e + 1) i0 s hi (by omega) h0⟩
theorem pk_loopD {σ : Type} (W : Nat → Nat → σ → Prop) (I : Nat → σ → Prop) (hx : ∀ n s, I 0 s → W (n + 1) 0 s)
    (hs : ∀ n i s, I (i + 1) s → (∀ s', I i s' → W n i s') → W (n + 1) (i + 1) s) : ∀ (e : Nat) (s : σ), I e s → W (e + 1) e s := by
  intro e
  induction e with
  | zero => exact fun s h => hx 0 s h
  | succ e ih => exact fun s h => hs (e + 1) e s h (fun s' h' => ih s' h')
theorem pk_least (P : Nat → Prop) (h : ∃ k, P k) : ∃ k, P k ∧ ∀ j, j < k → ¬ P j := by
  obtain ⟨k, hk⟩ := h
  induction k using Nat.strongRecOn with
  | ind k ih =>
    by_cases e : ∃ j, j < k ∧ P j
    · obtain ⟨j, hj, pj⟩ := e
      exact ih j hj pj
    · exact ⟨k, hk, fun j hj pj => e ⟨j, hj, pj⟩⟩
def bt (x : Int32) (i : Nat) : Bool := x.toBitVec.getLsbD i
theorem b_ext {x y : Int32} (h : ∀ i, i < 32 → bt x i = bt y i) : x = y := Int32.toBitVec_inj.mp (BitVec.eq_of_getLsbD_eq (fun i hi => h i hi))
theorem b_or (x y : Int32) (i : Nat) : bt (x ||| y) i = (bt x i || bt y i) := by unfold bt; rw [Int32.toBitVec_or, BitVec.getLsbD_or]
theorem b_and (x y : Int32) (i : Nat) : bt (x &&& y) i = (bt x i && bt y i) := by unfold bt; rw [Int32.toBitVec_and, BitVec.getLsbD_and]
theorem b_big {x : Int32} {i : Nat} (h : 32 ≤ i) : bt x i = false := BitVec.getLsbD_of_ge _ _ h
theorem b_0 (i : Nat) : bt 0 i = false := BitVec.getLsbD_zero
theorem s_l : ∀ n, n < 32 → ((nI n &&& 31).toBitVec.smod 32).toNat = n := by decide +kernel
theorem s_u : ∀ n, n < 32 → (((nI n).toUInt32 &&& Int32.toUInt32 31).toBitVec % 32).toNat = n := by decide +kernel
theorem b_shl (n : Nat) (hn : n < 32) (x : Int32) {i : Nat} (hi : i < 32) : bt (x <<< (nI n &&& 31)) i = (decide (n ≤ i) && bt x (i - n)) := by
  unfold bt
  rw [Int32.toBitVec_shiftLeft]
  show (x.toBitVec <<< ((nI n &&& 31).toBitVec.smod 32).toNat).getLsbD i = _
  rw [s_l n hn, BitVec.getLsbD_shiftLeft]
  rcases Nat.lt_or_ge i n with h | h
  · simp [h, Nat.not_le.mpr h]
  · simp [hi, h, Nat.not_lt.mpr h]
theorem b_sshr (n : Nat) (hn : n < 32) (x : Int32) {i : Nat} (hi : i < 32) : bt (x >>> (nI n &&& 31)) i = if n + i < 32 then bt x (n + i) else bt x 31 := by
  unfold bt
  rw [Int32.toBitVec_shiftRight]
  show (x.toBitVec.sshiftRight ((nI n &&& 31).toBitVec.smod 32).toNat).getLsbD i = _
  rw [s_l n hn, BitVec.getLsbD_sshiftRight, BitVec.msb_eq_getLsbD_last]
  simp [hi]
def nf_M (m : Int32) : Nat := 4294967296 - m.toBitVec.toNat
theorem nf_sh : ∀ l, l < 32 → ((1 : Int32) <<< (nI l &&& 31)).toBitVec = BitVec.twoPow 32 l := by decide +kernel
theorem nf_sl : ∀ l, l < 32 → (((nI l).toUInt32 &&& Int32.toUInt32 31).toBitVec % 32).toNat = l := by decide +kernel
theorem nf_tp : ∀ l, l < 32 → BitVec.twoPow 32 l ≠ 0#32 := by decide +kernel
theorem nf_bit (m : Int32) (l : Nat) (hl : l < 32) : ((m.toUInt32 >>> ((nI l).toUInt32 &&& Int32.toUInt32 31)).toInt32 &&& 1) = 0 ↔ (m &&& ((1 : Int32) <<< (nI l &&& 31))) = 0 := by
  have e : ((m.toUInt32 >>> ((nI l).toUInt32 &&& Int32.toUInt32 31)).toInt32).toBitVec = m.toBitVec >>> l := by
    show m.toBitVec >>> (((nI l).toUInt32 &&& Int32.toUInt32 31).toBitVec % 32) = m.toBitVec >>> l
    rw [BitVec.ushiftRight_eq', nf_sl l hl]
  rw [← Int32.toBitVec_inj, ← Int32.toBitVec_inj, Int32.toBitVec_and, Int32.toBitVec_and, nf_sh l hl, e, BitVec.and_twoPow]
  show (m.toBitVec >>> l &&& 1#32) = 0#32 ↔ _ = 0#32
  rw [BitVec.and_one_eq_setWidth_ofBool_getLsbD, BitVec.getLsbD_ushiftRight, Nat.add_zero]
  cases hb : m.toBitVec.getLsbD l
  · exact ⟨fun _ => by simp, fun _ => by decide⟩
  · exact ⟨fun z => absurd z (by decide), fun z => absurd ((if_pos rfl).symm.trans z) (nf_tp l hl)⟩
theorem nf_gr (m k : Int32) (h : m &&& k = 0) (hk : k ≠ 0) : nf_M (m ||| k) < nf_M m := by
  have hm := m.toBitVec.isLt
  have hm' := (m ||| k).toBitVec.isLt
  have h1 : m.toBitVec.toNat ≤ (m ||| k).toBitVec.toNat := by
    rw [Int32.toBitVec_or, BitVec.toNat_or]
    exact Nat.left_le_or
  have h2 : m.toBitVec.toNat ≠ (m ||| k).toBitVec.toNat := by
    intro e
    have e2 : m = m ||| k := Int32.toBitVec_inj.mp (BitVec.eq_of_toNat_eq e)
    apply hk
    apply Int32.toBitVec_inj.mp
    show k.toBitVec = 0#32
    apply BitVec.eq_of_getLsbD_eq
    intro i hi
    have a : m.toBitVec.getLsbD i = (m.toBitVec.getLsbD i || k.toBitVec.getLsbD i) := by rw [← BitVec.getLsbD_or, ← Int32.toBitVec_or, ← e2]
    have b : (m.toBitVec.getLsbD i && k.toBitVec.getLsbD i) = false := by
      rw [← BitVec.getLsbD_and, ← Int32.toBitVec_and, h]
      exact BitVec.getLsbD_zero
    rw [BitVec.getLsbD_zero]
    revert a b
    cases m.toBitVec.getLsbD i <;> cases k.toBitVec.getLsbD i <;> simp
  unfold nf_M
  omega
theorem ts_nf {x : Bool} (h : ¬ x = false) : x = true := by cases x <;> first | rfl | exact absurd rfl h
theorem ts_nt {x : Bool} (h : ¬ x = true) : x = false := by cases x <;> first | rfl | exact absurd rfl h
theorem ts_bit {w : Int64} {s : UInt64} {j : Nat} (hj : j < 64) (hs : s.toNat = j) : ((w.toUInt64 >>> s).toInt64 &&& 1) = 0 ↔ w.toBitVec.getLsbD j = false := by
  have e : (w.toUInt64 >>> s).toInt64.toBitVec = w.toBitVec >>> j := by
    apply BitVec.eq_of_toNat_eq
    show (w.toUInt64 >>> s).toNat = _
    rw [UInt64.toNat_shiftRight, hs, Nat.mod_eq_of_lt hj, BitVec.toNat_ushiftRight]
    rfl
  rw [← Int64.toBitVec_inj, Int64.toBitVec_and, e]
  show w.toBitVec >>> j &&& 1#64 = 0#64 ↔ _
  constructor
  · intro h
    have t := congrArg (fun x => x.getLsbD 0) h
    simpa using t
  · intro h
    apply BitVec.eq_of_getLsbD_eq
    intro i hi
    cases i with
    | zero => simp [h]
    | succ i => simp
theorem ts_or {w m : Int64} {j : Nat} (hj : j < 64) (hm : m.toBitVec = BitVec.twoPow 64 j) : (w ||| m) = w ↔ w.toBitVec.getLsbD j = true := by
  rw [← Int64.toBitVec_inj, Int64.toBitVec_or, hm]
  constructor
  · intro h
    have t := congrArg (fun x => x.getLsbD j) h
    simp only [BitVec.getLsbD_or, BitVec.getLsbD_twoPow] at t
    simpa [hj] using t.symm
  · intro h
    apply BitVec.eq_of_getLsbD_eq
    intro i hi
    rw [BitVec.getLsbD_or, BitVec.getLsbD_twoPow]
    by_cases e : j = i
    · subst e; rw [h, Bool.true_or]
    · simp [e]
theorem ts_and {w m : Int64} {j : Nat} (hj : j < 64) (hm : m.toBitVec = BitVec.twoPow 64 j) : (w &&& (m ^^^ (-1))) = w ↔ w.toBitVec.getLsbD j = false := by
  have ha : (-1 : Int64).toBitVec = BitVec.allOnes 64 := by decide
  rw [← Int64.toBitVec_inj, Int64.toBitVec_and, Int64.toBitVec_xor, hm, ha]
  constructor
  · intro h
    have t := congrArg (fun x => x.getLsbD j) h
    simp only [BitVec.getLsbD_and, BitVec.getLsbD_xor, BitVec.getLsbD_twoPow, BitVec.getLsbD_allOnes] at t
    simpa [hj] using t.symm
  · intro h
    apply BitVec.eq_of_getLsbD_eq
    intro i hi
    rw [BitVec.getLsbD_and, BitVec.getLsbD_xor, BitVec.getLsbD_twoPow, BitVec.getLsbD_allOnes]
    by_cases e : j = i
    · subst e; rw [h, Bool.false_and]
    · simp [e, hi]
theorem wb_tb (n : Nat) : (lN n).toBitVec = BitVec.ofNat 64 n := rfl
theorem wb_inj {a b : Int64} (h : a.toBitVec = b.toBitVec) : a = b := Int64.toBitVec_inj.mp h
theorem wb_tn {n : Nat} (h : n < 2 ^ 64) : (lN n).toBitVec.toNat = n := by rw [wb_tb, BitVec.toNat_ofNat, Nat.mod_eq_of_lt h]
theorem wb_of (x : Int64) : ∃ n, n < 2 ^ 64 ∧ x = lN n := ⟨x.toBitVec.toNat, x.toBitVec.isLt, wb_inj (by rw [wb_tb]; simp)⟩
theorem wb_of32 (x : Int32) : ∃ n, n < 2 ^ 32 ∧ x = nI n := ⟨x.toBitVec.toNat, x.toBitVec.isLt, Int32.toBitVec_inj.mp (by show _ = BitVec.ofNat 32 _; simp)⟩
theorem wb_c : ∀ k, k < 64 → ((nI k).toInt64 &&& 63) = lN k := by decide +kernel
theorem wb_cu : ∀ k, k < 64 → ((nI k).toInt64.toUInt64 &&& Int64.toUInt64 63) = UInt64.ofNat k := by decide +kernel
theorem wb_sm : ∀ k, k < 64 → (BitVec.ofNat 64 k).smod 64 = BitVec.ofNat 64 k := by decide +kernel
theorem wb_pw {a b : Nat} (h : a ≤ b) : 2 ^ b = 2 ^ a * 2 ^ (b - a) := by rw [← Nat.pow_add]; congr 1; omega
theorem wb_lt2 {a b : Nat} (h : a < b) : 2 ^ a < 2 ^ b := Nat.pow_lt_pow_right (by decide) h
theorem wb_mod (n : Nat) : lN n = lN (n % 2 ^ 64) := wb_inj (by rw [wb_tb, wb_tb]; apply BitVec.eq_of_toNat_eq; rw [BitVec.toNat_ofNat, BitVec.toNat_ofNat, Nat.mod_mod])
theorem wb_shr {n k : Nat} (hn : n < 2 ^ 64) (hk : k < 64) : ((lN n).toUInt64 >>> ((nI k).toInt64.toUInt64 &&& Int64.toUInt64 63)).toInt64 = lN (n / 2 ^ k) := by
  rw [wb_cu k hk]
  apply wb_inj
  apply BitVec.eq_of_toNat_eq
  show ((lN n).toUInt64 >>> UInt64.ofNat k).toNat = (BitVec.ofNat 64 _).toNat
  have h1 : (UInt64.ofNat k).toNat = k := by
    show (BitVec.ofNat 64 k).toNat = k
    rw [BitVec.toNat_ofNat, Nat.mod_eq_of_lt (by omega)]
  have h2 : (lN n).toUInt64.toNat = n := wb_tn hn
  rw [UInt64.toNat_shiftRight, h1, h2, Nat.mod_eq_of_lt hk, Nat.shiftRight_eq_div_pow, BitVec.toNat_ofNat, Nat.mod_eq_of_lt (Nat.lt_of_le_of_lt (Nat.div_le_self _ _) hn)]
theorem wb_shl (n : Nat) {k : Nat} (hk : k < 64) : lN n <<< ((nI k).toInt64 &&& 63) = lN (n * 2 ^ k) := by
  rw [wb_c k hk]
  apply wb_inj
  rw [Int64.toBitVec_shiftLeft, wb_tb, wb_tb, wb_tb, wb_sm k hk]
  apply BitVec.eq_of_toNat_eq
  rw [BitVec.shiftLeft_eq', BitVec.toNat_shiftLeft, BitVec.toNat_ofNat, BitVec.toNat_ofNat, BitVec.toNat_ofNat, Nat.mod_eq_of_lt (show k < 2 ^ 64 by omega), Nat.shiftLeft_eq, Nat.mul_mod, Nat.mod_mod, ← Nat.mul_mod]
theorem wb_and {a b : Nat} (ha : a < 2 ^ 64) (hb : b < 2 ^ 64) : lN a &&& lN b = lN (a &&& b) := by
  apply wb_inj
  rw [Int64.toBitVec_and, wb_tb, wb_tb, wb_tb]
  apply BitVec.eq_of_toNat_eq
  rw [BitVec.toNat_and, BitVec.toNat_ofNat, BitVec.toNat_ofNat, BitVec.toNat_ofNat, Nat.mod_eq_of_lt ha, Nat.mod_eq_of_lt hb, Nat.mod_eq_of_lt (Nat.and_lt_two_pow _ hb)]
theorem wb_or {a b : Nat} (ha : a < 2 ^ 64) (hb : b < 2 ^ 64) : lN a ||| lN b = lN (a ||| b) := by
  apply wb_inj
  rw [Int64.toBitVec_or, wb_tb, wb_tb, wb_tb]
  apply BitVec.eq_of_toNat_eq
  rw [BitVec.toNat_or, BitVec.toNat_ofNat, BitVec.toNat_ofNat, BitVec.toNat_ofNat, Nat.mod_eq_of_lt ha, Nat.mod_eq_of_lt hb, Nat.mod_eq_of_lt (Nat.or_lt_two_pow ha hb)]
theorem wb_mask {n k : Nat} (hn : n < 2 ^ 64) (hk : k < 64) : lN n &&& lN (2 ^ k - 1) = lN (n % 2 ^ k) := by
  rw [wb_and hn (by have := wb_lt2 hk; omega), Nat.and_two_pow_sub_one_eq_mod]
theorem wb_a1 {n : Nat} (hn : n < 2 ^ 64) : lN n &&& 1 = lN (n % 2) := wb_mask (k := 1) hn (by decide)
theorem wb_bit {n k : Nat} (hn : n < 2 ^ 64) (hk : k < 64) : ((lN n).toUInt64 >>> ((nI k).toInt64.toUInt64 &&& Int64.toUInt64 63)).toInt64 &&& 1 = lN (n / 2 ^ k % 2) := by
  rw [wb_shr hn hk, wb_a1 (Nat.lt_of_le_of_lt (Nat.div_le_self _ _) hn)]
theorem wb_xor {q k : Nat} (hk : k < 63) (h : 2 ^ k ≤ q) (h2 : q < 2 ^ (k + 1)) : lN q ^^^ lN (2 ^ k) = lN (q - 2 ^ k) := by
  obtain ⟨r, rfl⟩ : ∃ r, q = 2 ^ k + r := ⟨q - 2 ^ k, by omega⟩
  have hr : r < 2 ^ k := by rw [Nat.pow_succ] at h2; omega
  have hx : (2 ^ k + r) ^^^ 2 ^ k = r := by
    apply Nat.eq_of_testBit_eq
    intro i
    rw [Nat.testBit_xor, Nat.testBit_two_pow]
    rcases Nat.lt_trichotomy i k with h | h | h
    · rw [Nat.testBit_two_pow_add_gt h]
      simp [show ¬ k = i by omega]
    · subst h
      rw [Nat.testBit_two_pow_add_eq]
      simp
    · have a1 : 2 ^ (k + 1) ≤ 2 ^ i := Nat.pow_le_pow_right (by decide) h
      rw [Nat.testBit_lt_two_pow (show 2 ^ k + r < 2 ^ i by omega), Nat.testBit_lt_two_pow (show r < 2 ^ i by omega)]
      simp [show ¬ k = i by omega]
  have b1 := wb_lt2 (show k + 1 < 64 by omega)
  have b2 := wb_lt2 (show k < 64 by omega)
  apply wb_inj
  rw [Int64.toBitVec_xor, wb_tb, wb_tb, wb_tb]
  apply BitVec.eq_of_toNat_eq
  rw [BitVec.toNat_xor, BitVec.toNat_ofNat, BitVec.toNat_ofNat, BitVec.toNat_ofNat, Nat.mod_eq_of_lt (by omega : 2 ^ k + r < 2 ^ 64), Nat.mod_eq_of_lt b2, hx, Nat.add_sub_cancel_left, Nat.mod_eq_of_lt (by omega)]
theorem u_tn {n : Nat} (h : n < 2 ^ 64) : (UInt64.ofNat n).toNat = n := Nat.mod_eq_of_lt h
end
section
/-! counts of a predicate below n; the places of a triangle -/
noncomputable def mb_b (p : Prop) : Nat := @ite Nat p (Classical.propDecidable p) 1 0
theorem mb_t {p : Prop} (h : p) : mb_b p = 1 := if_pos h
theorem mb_f {p : Prop} (h : ¬ p) : mb_b p = 0 := if_neg h
theorem mb_le (p : Prop) : mb_b p ≤ 1 := by
  by_cases h : p
  · rw [mb_t h]; exact Nat.le_refl _
  · rw [mb_f h]; exact Nat.zero_le _
theorem mb_iff {p q : Prop} (h : p ↔ q) : mb_b p = mb_b q := by rw [propext h]
noncomputable def mb_cn (p : Nat → Prop) : Nat → Nat
  | 0 => 0
  | n + 1 => mb_cn p n + mb_b (p n)
theorem mb_cn_s (p : Nat → Prop) (n : Nat) : mb_cn p (n + 1) = mb_cn p n + mb_b (p n) := rfl
theorem mb_cn_le (p : Nat → Prop) (n : Nat) : mb_cn p n ≤ n := by
  induction n with
  | zero => exact Nat.le_refl _
  | succ n ih => rw [mb_cn_s]; have := mb_le (p n); omega
theorem mb_cn_all (p : Nat → Prop) (n : Nat) : mb_cn p n = n ↔ ∀ i, i < n → p i := by
  induction n with
  | zero => exact ⟨fun _ i hi => absurd hi (Nat.not_lt_zero _), fun _ => rfl⟩
  | succ n ih =>
    have h1 := mb_cn_le p n
    rw [mb_cn_s]
    by_cases h : p n
    · rw [mb_t h]
      constructor
      · intro e i hi
        by_cases hn : i = n
        · rw [hn]; exact h
        · exact (ih.mp (by omega)) i (by omega)
      · intro e
        have := ih.mpr (fun i hi => e i (by omega))
        omega
    · rw [mb_f h]
      constructor
      · intro e; omega
      · intro e; exact absurd (e n (by omega)) h
theorem mb_cn_congr {p q : Nat → Prop} {n : Nat} (h : ∀ i, i < n → (p i ↔ q i)) : mb_cn p n = mb_cn q n := by
  induction n with
  | zero => rfl
  | succ n ih => rw [mb_cn_s, mb_cn_s, ih (fun i hi => h i (by omega)), mb_iff (h n (by omega))]
theorem mb_cn_put {p q : Nat → Prop} {n k : Nat} (hk : k < n) (h0 : ¬ p k) (h : ∀ i, i < n → (q i ↔ (p i ∨ i = k))) : mb_cn q n = mb_cn p n + 1 := by
  induction n with
  | zero => omega
  | succ n ih =>
    rw [mb_cn_s, mb_cn_s]
    by_cases e : k = n
    · subst e
      rw [mb_t ((h k (by omega)).mpr (Or.inr rfl)), mb_f h0, mb_cn_congr (p := q) (q := p) (fun i hi => ?_)]
      rw [h i (by omega)]
      exact ⟨fun z => z.resolve_right (by omega), Or.inl⟩
    · rw [ih (by omega) (fun i hi => h i (by omega)), mb_iff (p := q n) (q := p n) (by rw [h n (by omega)]; exact ⟨fun z => z.resolve_right (by omega), Or.inl⟩)]
      omega
theorem mb_cn_split (p r : Nat → Prop) (n : Nat) : mb_cn p n = mb_cn (fun i => p i ∧ r i) n + mb_cn (fun i => p i ∧ ¬ r i) n := by
  induction n with
  | zero => rfl
  | succ n ih =>
    rw [mb_cn_s, mb_cn_s, mb_cn_s, ih]
    by_cases h : p n
    · by_cases h2 : r n
      · rw [mb_t h, mb_t (p := p n ∧ r n) ⟨h, h2⟩, mb_f (p := p n ∧ ¬ r n) (fun z => z.2 h2)]; omega
      · rw [mb_t h, mb_f (p := p n ∧ r n) (fun z => h2 z.2), mb_t (p := p n ∧ ¬ r n) ⟨h, h2⟩]; omega
    · rw [mb_f h, mb_f (p := p n ∧ r n) (fun z => h z.1), mb_f (p := p n ∧ ¬ r n) (fun z => h z.1)]; omega
theorem mb_cn_list (p : Nat → Prop) (n : Nat) : ∃ l : List Nat, l.Nodup ∧ l.length = mb_cn p n ∧ ∀ i, i ∈ l ↔ (i < n ∧ p i) := by
  induction n with
  | zero => exact ⟨[], List.nodup_nil, rfl, fun i => by simp⟩
  | succ n ih =>
    obtain ⟨l, h1, h2, h3⟩ := ih
    by_cases h : p n
    · refine ⟨n :: l, List.nodup_cons.mpr ⟨fun hn => ?_, h1⟩, ?_, ?_⟩
      · have := (h3 n).mp hn; omega
      · rw [mb_cn_s, mb_t h, List.length_cons, h2]
      · intro i
        rw [List.mem_cons, h3]
        constructor
        · rintro (rfl | ⟨a, b⟩)
          · exact ⟨by omega, h⟩
          · exact ⟨by omega, b⟩
        · rintro ⟨a, b⟩
          by_cases e : i = n
          · exact Or.inl e
          · exact Or.inr ⟨by omega, b⟩
    · refine ⟨l, h1, ?_, ?_⟩
      · rw [mb_cn_s, mb_f h, h2]; rfl
      · intro i
        rw [h3]
        constructor
        · rintro ⟨a, b⟩; exact ⟨by omega, b⟩
        · rintro ⟨a, b⟩
          refine ⟨?_, b⟩
          by_cases e : i = n
          · subst e; exact absurd b h
          · omega
theorem mb_nodup_map {l : List Nat} {f : Nat → Nat} (h : l.Nodup) (hi : ∀ i j, i ∈ l → j ∈ l → f i = f j → i = j) : (l.map f).Nodup := by
  rw [List.nodup_iff_pairwise_ne, List.pairwise_map]
  exact List.Pairwise.imp_of_mem (fun {a b} ha hb hab e => hab (hi a b ha hb e)) (List.nodup_iff_pairwise_ne.mp h)
theorem mb_cn_inj {p q : Nat → Prop} {n m : Nat} (f : Nat → Nat) (h : ∀ i, i < n → p i → f i < m ∧ q (f i)) (hi : ∀ i j, i < n → j < n → p i → p j → f i = f j → i = j) : mb_cn p n ≤ mb_cn q m := by
  obtain ⟨l, a1, a2, a3⟩ := mb_cn_list p n
  obtain ⟨l', b1, b2, b3⟩ := mb_cn_list q m
  have e : (l.map f).length = l.length := by simp
  rw [← a2, ← b2, ← e]
  apply List.Nodup.length_le_of_subset
  · exact mb_nodup_map a1 (fun i j ia ja => hi i j ((a3 i).mp ia).1 ((a3 j).mp ja).1 ((a3 i).mp ia).2 ((a3 j).mp ja).2)
  · intro x hx
    obtain ⟨i, hi1, rfl⟩ := List.mem_map.mp hx
    exact (b3 _).mpr (h i ((a3 i).mp hi1).1 ((a3 i).mp hi1).2)
/-- a list of different numbers that all have p: no longer than the count -/
theorem mb_cn_sub {p : Nat → Prop} {n : Nat} {l : List Nat} (hl : l.Nodup) (h : ∀ x, x ∈ l → x < n ∧ p x) : l.length ≤ mb_cn p n := by
  obtain ⟨l', b1, b2, b3⟩ := mb_cn_list p n
  rw [← b2]
  exact List.Nodup.length_le_of_subset hl (fun x hx => (b3 x).mpr (h x hx))
/-- and if it is as long, it holds them all -/
theorem mb_cn_full {p : Nat → Prop} {n : Nat} {l : List Nat} (hl : l.Nodup) (h : ∀ x, x ∈ l → x < n ∧ p x) (e : mb_cn p n ≤ l.length) : ∀ x, x < n → p x → x ∈ l := by
  intro x hx hp
  refine Classical.byContradiction fun hn => ?_
  have := mb_cn_sub (p := p) (n := n) (l := x :: l) (List.nodup_cons.mpr ⟨hn, hl⟩) (fun y hy => by
    rcases List.mem_cons.mp hy with rfl | hy
    · exact ⟨hx, hp⟩
    · exact h y hy)
  rw [List.length_cons] at this
  omega
theorem mb_nodup_lt {l : List Nat} {n : Nat} (hl : l.Nodup) (h : ∀ x, x ∈ l → x < n) : l.length ≤ n := by
  have := List.Nodup.length_le_of_subset (l₂ := List.range n) hl (fun x hx => List.mem_range.mpr (h x hx))
  rwa [List.length_range] at this
/-- the next corner of the same triangle -/
def mq_nx (c : Nat) : Nat := if c % 3 = 2 then c - 2 else c + 1
theorem mq_nx_a {c : Nat} (h : c % 3 = 2) : mq_nx c = c - 2 := if_pos h
theorem mq_nx_b {c : Nat} (h : ¬ c % 3 = 2) : mq_nx c = c + 1 := if_neg h
theorem mq_or (c : Nat) : (c % 3 = 2 ∧ mq_nx c = c - 2) ∨ (c % 3 ≠ 2 ∧ mq_nx c = c + 1) := by
  by_cases h : c % 3 = 2
  · exact Or.inl ⟨h, mq_nx_a h⟩
  · exact Or.inr ⟨h, mq_nx_b h⟩
theorem mq_lt {c n : Nat} (h : c < 3 * n) : mq_nx c < 3 * n := by
  rcases mq_or c with ⟨a, b⟩ | ⟨a, b⟩ <;> omega
theorem mq_div (c : Nat) : mq_nx c / 3 = c / 3 := by
  rcases mq_or c with ⟨a, b⟩ | ⟨a, b⟩ <;> omega
theorem mq_mod (c : Nat) : mq_nx c % 3 = (c % 3 + 1) % 3 := by
  rcases mq_or c with ⟨a, b⟩ | ⟨a, b⟩ <;> omega
theorem mq_3 (c : Nat) : mq_nx (mq_nx (mq_nx c)) = c := by
  rcases mq_or c with ⟨a, b⟩ | ⟨a, b⟩ <;> rcases mq_or (mq_nx c) with ⟨a', b'⟩ | ⟨a', b'⟩ <;> rcases mq_or (mq_nx (mq_nx c)) with ⟨a'', b''⟩ | ⟨a'', b''⟩ <;> omega
theorem mq_inj {c c' : Nat} (h : mq_nx c = mq_nx c') : c = c' := by
  rw [← mq_3 c, h, mq_3 c']
theorem mq_tip (c : Nat) : mq_nx (mq_nx c) = if c % 3 = 0 then c + 2 else c - 1 := by
  by_cases h : c % 3 = 0
  · rw [if_pos h]
    rcases mq_or c with ⟨a, b⟩ | ⟨a, b⟩ <;> rcases mq_or (mq_nx c) with ⟨a', b'⟩ | ⟨a', b'⟩ <;> omega
  · rw [if_neg h]
    rcases mq_or c with ⟨a, b⟩ | ⟨a, b⟩ <;> rcases mq_or (mq_nx c) with ⟨a', b'⟩ | ⟨a', b'⟩ <;> omega
theorem mq_at (i k : Nat) (hk : k < 3) : mq_nx (3 * i + k) = 3 * i + (k + 1) % 3 := by
  rcases mq_or (3 * i + k) with ⟨a, b⟩ | ⟨a, b⟩ <;> omega
theorem mq_0 (i : Nat) : mq_nx (3 * i) = 3 * i + 1 := mq_at i 0 (by decide)
theorem mq_1 (i : Nat) : mq_nx (3 * i + 1) = 3 * i + 2 := mq_at i 1 (by decide)
theorem mq_2 (i : Nat) : mq_nx (3 * i + 2) = 3 * i := mq_at i 2 (by decide)
end
section
/-! triangles as triples of names: sides, tips, boundary; the boundary is made of cycles -/
def md_Ok (n V : Nat) (d : Nat → Nat) : Prop :=
  (∀ c, c < 3 * n → d c < V) ∧ (∀ c, c < 3 * n → d c ≠ d (mq_nx c)) ∧
  (∀ c c', c < 3 * n → c' < 3 * n → d c = d c' → d (mq_nx c) = d (mq_nx c') → c = c')
def md_S (n : Nat) (d : Nat → Nat) (p q : Nat) : Prop := ∃ c, c < 3 * n ∧ d c = p ∧ d (mq_nx c) = q
def md_T (n : Nat) (d : Nat → Nat) (p q t : Nat) : Prop := ∃ c, c < 3 * n ∧ d c = p ∧ d (mq_nx c) = q ∧ d (mq_nx (mq_nx c)) = t
def md_B (n : Nat) (d : Nat → Nat) (p q : Nat) : Prop := md_S n d p q ∧ ¬ md_S n d q p
def md_Sm (n : Nat) (d e : Nat → Nat) : Prop :=
  (∀ i, i < n → ∃ j, j < n ∧ ∀ k, k < 3 → d (3 * i + k) = e (3 * j + k)) ∧
  (∀ j, j < n → ∃ i, i < n ∧ ∀ k, k < 3 → d (3 * i + k) = e (3 * j + k))
theorem md_T_rot {n : Nat} {d : Nat → Nat} {p q t : Nat} (h : md_T n d p q t) : md_T n d q t p := by
  obtain ⟨c, hc, h1, h2, h3⟩ := h
  exact ⟨mq_nx c, mq_lt hc, h2, h3, by rw [mq_3]; exact h1⟩
theorem md_T_S {n : Nat} {d : Nat → Nat} {p q : Nat} : md_S n d p q ↔ ∃ t, md_T n d p q t :=
  ⟨fun ⟨c, hc, h1, h2⟩ => ⟨_, c, hc, h1, h2, rfl⟩, fun ⟨_, c, hc, h1, h2, _⟩ => ⟨c, hc, h1, h2⟩⟩
theorem md_T_fun {n V : Nat} {d : Nat → Nat} (h : md_Ok n V d) {p q t t' : Nat} (a : md_T n d p q t) (b : md_T n d p q t') : t = t' := by
  obtain ⟨c, hc, h1, h2, h3⟩ := a
  obtain ⟨c', hc', h1', h2', h3'⟩ := b
  have := h.2.2 c c' hc hc' (h1.trans h1'.symm) (h2.trans h2'.symm)
  subst this
  exact h3.symm.trans h3'
theorem md_T_ne {n V : Nat} {d : Nat → Nat} (h : md_Ok n V d) {p q t : Nat} (a : md_T n d p q t) : p ≠ q ∧ q ≠ t ∧ t ≠ p := by
  obtain ⟨c, hc, rfl, rfl, rfl⟩ := a
  refine ⟨h.2.1 c hc, h.2.1 _ (mq_lt hc), ?_⟩
  have := h.2.1 _ (mq_lt (mq_lt hc))
  rwa [mq_3] at this
theorem md_T_lt {n V : Nat} {d : Nat → Nat} (h : md_Ok n V d) {p q t : Nat} (a : md_T n d p q t) : p < V ∧ q < V ∧ t < V := by
  obtain ⟨c, hc, rfl, rfl, rfl⟩ := a
  exact ⟨h.1 c hc, h.1 _ (mq_lt hc), h.1 _ (mq_lt (mq_lt hc))⟩
theorem md_S_lt {n V : Nat} {d : Nat → Nat} (h : md_Ok n V d) {p q : Nat} (a : md_S n d p q) : p < V ∧ q < V := by
  obtain ⟨c, hc, rfl, rfl⟩ := a
  exact ⟨h.1 c hc, h.1 _ (mq_lt hc)⟩
theorem md_S_ne {n V : Nat} {d : Nat → Nat} (h : md_Ok n V d) {p q : Nat} (a : md_S n d p q) : p ≠ q := by
  obtain ⟨c, hc, rfl, rfl⟩ := a
  exact h.2.1 c hc
theorem md_dm (c : Nat) : 3 * (c / 3) + c % 3 = c := Nat.div_add_mod c 3
theorem md_nxk (c : Nat) : mq_nx c = 3 * (c / 3) + (c % 3 + 1) % 3 := by
  have := mq_at (c / 3) (c % 3) (by omega)
  rwa [md_dm] at this
theorem md_Sm_1 {n : Nat} {d e : Nat → Nat} {p q t : Nat} (h : ∀ i, i < n → ∃ j, j < n ∧ ∀ k, k < 3 → d (3 * i + k) = e (3 * j + k)) (a : md_T n d p q t) : md_T n e p q t := by
  obtain ⟨c, hc, h1, h2, h3⟩ := a
  obtain ⟨j, hj, hk⟩ := h (c / 3) (by omega)
  have e0 := hk (c % 3) (by omega)
  have e1 := hk ((c % 3 + 1) % 3) (by omega)
  have e2 := hk (((c % 3 + 1) % 3 + 1) % 3) (by omega)
  rw [md_dm, h1] at e0
  rw [← md_nxk, h2] at e1
  have n1 : mq_nx (3 * j + c % 3) = 3 * j + (c % 3 + 1) % 3 := mq_at j (c % 3) (by omega)
  have n2 : mq_nx (3 * j + (c % 3 + 1) % 3) = 3 * j + ((c % 3 + 1) % 3 + 1) % 3 := mq_at j _ (by omega)
  have n3 : mq_nx (mq_nx c) = 3 * (c / 3) + ((c % 3 + 1) % 3 + 1) % 3 := by rw [md_nxk (mq_nx c), mq_div, mq_mod]
  rw [← n3, h3] at e2
  exact ⟨3 * j + c % 3, by omega, e0.symm, by rw [n1]; exact e1.symm, by rw [n1, n2]; exact e2.symm⟩
theorem md_Sm_T {n : Nat} {d e : Nat → Nat} {p q t : Nat} (h : md_Sm n d e) : md_T n d p q t ↔ md_T n e p q t := by
  constructor
  · exact md_Sm_1 h.1
  · refine md_Sm_1 (fun j hj => ?_)
    obtain ⟨i, hi, hk⟩ := h.2 j hj
    exact ⟨i, hi, fun k h3 => (hk k h3).symm⟩
theorem md_Sm_S {n : Nat} {d e : Nat → Nat} {p q : Nat} (h : md_Sm n d e) : md_S n d p q ↔ md_S n e p q := by
  rw [md_T_S, md_T_S]
  exact ⟨fun ⟨t, z⟩ => ⟨t, (md_Sm_T h).mp z⟩, fun ⟨t, z⟩ => ⟨t, (md_Sm_T h).mpr z⟩⟩
theorem md_Sm_B {n : Nat} {d e : Nat → Nat} {p q : Nat} (h : md_Sm n d e) : md_B n d p q ↔ md_B n e p q := by
  unfold md_B
  rw [md_Sm_S h, md_Sm_S h]
theorem mb_cn_rel {p q : Nat → Prop} {n m : Nat} (R : Nat → Nat → Prop) (h : ∀ i, i < n → p i → ∃ j, j < m ∧ q j ∧ R i j) (hi : ∀ i i' j, i < n → i' < n → R i j → R i' j → i = i') : mb_cn p n ≤ mb_cn q m := by
  have hc : ∀ i, ∃ j, i < n → p i → (j < m ∧ q j ∧ R i j) := by
    intro i
    by_cases z : i < n ∧ p i
    · obtain ⟨j, hj⟩ := h i z.1 z.2
      exact ⟨j, fun _ _ => hj⟩
    · exact ⟨0, fun a b => absurd ⟨a, b⟩ z⟩
  obtain ⟨f, hf⟩ := Classical.axiomOfChoice hc
  refine mb_cn_inj f (fun i a b => ⟨(hf i a b).1, (hf i a b).2.1⟩) (fun i j a b c e z => ?_)
  have h1 := (hf i a c).2.2
  rw [z] at h1
  exact hi i j (f j) a b h1 (hf j b e).2.2
theorem mb_cn_one {p : Nat → Prop} {n : Nat} (h : ∀ i j, i < n → j < n → p i → p j → i = j) : mb_cn p n ≤ 1 :=
  Nat.le_trans (mb_cn_inj (q := fun _ => True) (m := 1) (fun _ => 0) (fun _ _ _ => ⟨by decide, trivial⟩) (fun i j a b c d _ => h i j a b c d)) (mb_cn_le _ 1)
theorem mb_cn_pos {p : Nat → Prop} {n : Nat} (h : 0 < mb_cn p n) : ∃ i, i < n ∧ p i := by
  obtain ⟨l, h1, h2, h3⟩ := mb_cn_list p n
  match l, h2, h3 with
  | [], h2, _ => rw [List.length_nil] at h2; omega
  | x :: _, _, h3 => exact ⟨x, (h3 x).mp (List.mem_cons_self)⟩
theorem mb_cn_ge1 {p : Nat → Prop} {n i : Nat} (hi : i < n) (h : p i) : 1 ≤ mb_cn p n :=
  mb_cn_sub (l := [i]) (by simp) (fun x hx => by rw [List.mem_singleton.mp hx]; exact ⟨hi, h⟩)
theorem mb_cn_ge2 {p : Nat → Prop} {n i j : Nat} (hij : i ≠ j) (hi : i < n) (h : p i) (hj : j < n) (h' : p j) : 2 ≤ mb_cn p n :=
  mb_cn_sub (l := [i, j]) (by simp [hij]) (fun x hx => by
    rcases List.mem_cons.mp hx with rfl | hx
    · exact ⟨hi, h⟩
    · rw [List.mem_singleton.mp hx]; exact ⟨hj, h'⟩)
theorem mb_cn_ext {p : Nat → Prop} {n m : Nat} (hnm : n ≤ m) (h : ∀ i, i < m → p i → i < n) : mb_cn p m = mb_cn p n := by
  refine Nat.le_antisymm (mb_cn_inj (fun i => i) (fun i a b => ⟨h i a b, b⟩) (fun i j _ _ _ _ e => e)) (mb_cn_inj (fun i => i) (fun i a b => ⟨by omega, b⟩) (fun i j _ _ _ _ e => e))
/-- at each name as many boundary sides start as end -/
theorem md_io {n V : Nat} {d : Nat → Nat} (h : md_Ok n V d) (v : Nat) :
    mb_cn (fun c => d c = v ∧ ¬ md_S n d (d (mq_nx c)) (d c)) (3 * n) = mb_cn (fun c => d (mq_nx c) = v ∧ ¬ md_S n d (d (mq_nx c)) (d c)) (3 * n) := by
  have A1 : mb_cn (fun c => d c = v) (3 * n) ≤ mb_cn (fun c => d (mq_nx c) = v) (3 * n) :=
    mb_cn_inj (fun c => mq_nx (mq_nx c)) (fun c hc hv => ⟨mq_lt (mq_lt hc), by rw [mq_3]; exact hv⟩) (fun i j _ _ _ _ e => mq_inj (mq_inj e))
  have A2 : mb_cn (fun c => d (mq_nx c) = v) (3 * n) ≤ mb_cn (fun c => d c = v) (3 * n) :=
    mb_cn_inj mq_nx (fun c hc hv => ⟨mq_lt hc, hv⟩) (fun i j _ _ _ _ e => mq_inj e)
  have R : ∀ c c' c'', c < 3 * n → c' < 3 * n → (d c'' = d (mq_nx c) ∧ d (mq_nx c'') = d c) → (d c'' = d (mq_nx c') ∧ d (mq_nx c'') = d c') → c = c' := by
    intro c c' c'' hc hc' a b
    exact h.2.2 c c' hc hc' (a.2.symm.trans b.2) (a.1.symm.trans b.1)
  have I1 : mb_cn (fun c => d c = v ∧ md_S n d (d (mq_nx c)) (d c)) (3 * n) ≤ mb_cn (fun c => d (mq_nx c) = v ∧ md_S n d (d (mq_nx c)) (d c)) (3 * n) := by
    refine mb_cn_rel (fun c c'' => d c'' = d (mq_nx c) ∧ d (mq_nx c'') = d c) ?_ R
    rintro c hc ⟨hv, c', hc', e1, e2⟩
    exact ⟨c', hc', ⟨e2.trans hv, c, hc, e2.symm, e1.symm⟩, e1, e2⟩
  have I2 : mb_cn (fun c => d (mq_nx c) = v ∧ md_S n d (d (mq_nx c)) (d c)) (3 * n) ≤ mb_cn (fun c => d c = v ∧ md_S n d (d (mq_nx c)) (d c)) (3 * n) := by
    refine mb_cn_rel (fun c c'' => d c'' = d (mq_nx c) ∧ d (mq_nx c'') = d c) ?_ R
    rintro c hc ⟨hv, c', hc', e1, e2⟩
    exact ⟨c', hc', ⟨e1.trans hv, c, hc, e2.symm, e1.symm⟩, e1, e2⟩
  have s1 := mb_cn_split (fun c => d c = v) (fun c => md_S n d (d (mq_nx c)) (d c)) (3 * n)
  have s2 := mb_cn_split (fun c => d (mq_nx c) = v) (fun c => md_S n d (d (mq_nx c)) (d c)) (3 * n)
  omega
def md_One (n : Nat) (d : Nat → Nat) : Prop := ∀ x y y', md_B n d x y → md_B n d x y' → y = y'
theorem md_B_on {n V : Nat} {d : Nat → Nat} (h : md_Ok n V d) {x y : Nat} (hb : md_B n d x y) : ∃ z, md_B n d y z := by
  obtain ⟨⟨c, hc, rfl, rfl⟩, hn⟩ := hb
  have h1 := mb_cn_ge1 (p := fun c' => d (mq_nx c') = d (mq_nx c) ∧ ¬ md_S n d (d (mq_nx c')) (d c')) hc ⟨rfl, hn⟩
  rw [← md_io h] at h1
  obtain ⟨c', hc', e, hb⟩ := mb_cn_pos h1
  exact ⟨d (mq_nx c'), ⟨c', hc', e, rfl⟩, by rw [← e]; exact hb⟩
theorem md_B_in {n V : Nat} {d : Nat → Nat} (h : md_Ok n V d) (H : md_One n d) {x x' y : Nat} (hb : md_B n d x y) (hb' : md_B n d x' y) : x = x' := by
  obtain ⟨⟨c, hc, rfl, rfl⟩, hn⟩ := hb
  obtain ⟨⟨c', hc', rfl, e'⟩, hn'⟩ := hb'
  refine Classical.byContradiction fun hne => ?_
  have h2 := mb_cn_ge2 (p := fun c' => d (mq_nx c') = d (mq_nx c) ∧ ¬ md_S n d (d (mq_nx c')) (d c')) (i := c) (j := c') (fun e => hne (by rw [e])) hc ⟨rfl, hn⟩ hc' ⟨e', by rw [e']; exact hn'⟩
  rw [← md_io h] at h2
  have h1 := mb_cn_one (p := fun c' => d c' = d (mq_nx c) ∧ ¬ md_S n d (d (mq_nx c')) (d c')) (n := 3 * n) (by
    rintro i j hi hj ⟨a, b⟩ ⟨a', b'⟩
    refine h.2.2 i j hi hj (a.trans a'.symm) (H (d i) _ _ ⟨⟨i, hi, rfl, rfl⟩, b⟩ ?_)
    rw [a, ← a']
    exact ⟨⟨j, hj, rfl, rfl⟩, b'⟩)
  omega
/-- the boundary cycle through the gate a -> b -/
theorem md_cyc {n V : Nat} {d : Nat → Nat} (h : md_Ok n V d) (H : md_One n d) {a b : Nat} (hab : md_B n d a b) :
    ∃ (L : Nat) (y : Nat → Nat), 3 ≤ L ∧ y 0 = a ∧ y 1 = b ∧ y L = a ∧ (∀ i, md_B n d (y i) (y (i + 1))) ∧ (∀ i j, i < L → j < L → y i = y j → i = j) := by
  have hc : ∀ x, ∃ z, (∃ z', md_B n d x z') → md_B n d x z := by
    intro x
    by_cases e : ∃ z', md_B n d x z'
    · obtain ⟨z, hz⟩ := e
      exact ⟨z, fun _ => hz⟩
    · exact ⟨0, fun z => absurd z e⟩
  obtain ⟨f, hf⟩ := Classical.axiomOfChoice hc
  obtain ⟨y, y0, ys⟩ : ∃ y : Nat → Nat, y 0 = a ∧ ∀ i, y (i + 1) = f (y i) := ⟨fun i => Nat.rec a (fun _ r => f r) i, rfl, fun _ => rfl⟩
  have hB : ∀ i, md_B n d (y i) (y (i + 1)) := by
    intro i
    induction i with
    | zero => rw [ys, y0]; exact hf a ⟨b, hab⟩
    | succ i ih => rw [ys (i + 1)]; exact hf _ (md_B_on h ih)
  have hlt : ∀ i, y i < V := fun i => (md_S_lt h (hB i).1).1
  have hback : ∀ i k, y i = y (i + k) → y 0 = y k := by
    intro i
    induction i with
    | zero => intro k e; rw [Nat.zero_add] at e; exact e
    | succ i ih =>
      intro k e
      refine ih k (md_B_in h H (y := y (i + 1)) (hB i) ?_)
      rw [e, show i + 1 + k = i + k + 1 by omega]
      exact hB (i + k)
  have hex : ∃ k, 0 < k ∧ y k = y 0 := by
    refine Classical.byContradiction fun hn => ?_
    have := mb_nodup_lt (l := (List.range (V + 1)).map y) (n := V) (mb_nodup_map List.nodup_range (fun i j _ _ e => by
      refine Classical.byContradiction fun hij => hn ?_
      rcases Nat.lt_or_ge i j with hl | hl
      · exact ⟨j - i, by omega, (hback i (j - i) (by rw [e, show i + (j - i) = j by omega])).symm⟩
      · exact ⟨i - j, by omega, (hback j (i - j) (by rw [← e, show j + (i - j) = i by omega])).symm⟩)) (fun x hx => by
      obtain ⟨i, _, rfl⟩ := List.mem_map.mp hx
      exact hlt i)
    rw [List.length_map, List.length_range] at this
    omega
  obtain ⟨L, ⟨hL, hLa⟩, hmin⟩ := pk_least (fun k => 0 < k ∧ y k = y 0) hex
  have y1 : y 1 = b := H a _ _ (by rw [← y0]; exact hB 0) hab
  refine ⟨L, y, ?_, y0, y1, hLa.trans y0, hB, ?_⟩
  · by_cases e1 : L = 1
    · subst e1
      exact absurd hLa.symm (md_S_ne h (hB 0).1)
    · by_cases e2 : L = 2
      · subst e2
        have b1 : md_B n d (y 1) (y 2) := hB 1
        rw [hLa] at b1
        exact absurd b1.1 (hB 0).2
      · omega
  · intro i j hi hj e
    refine Classical.byContradiction fun hij => ?_
    rcases Nat.lt_or_ge i j with hl | hl
    · exact hmin (j - i) (by omega) ⟨by omega, (hback i (j - i) (by rw [e, show i + (j - i) = j by omega])).symm⟩
    · exact hmin (i - j) (by omega) ⟨by omega, (hback j (i - j) (by rw [← e, show j + (i - j) = i by omega])).symm⟩
end
section
/-! the peeling of a stack of loops, letter by letter: lengths, and what determines what -/
def mr_rs (w p q t : Nat) (s s' : List (List Nat)) : Prop :=
  ∃ tl rest, s = (p :: q :: tl) :: rest ∧
    ((w = 0 ∧ s' = (t :: q :: (tl ++ [p])) :: rest) ∨
     ∃ l1 l2, tl = l1 ++ t :: l2 ∧
       ((w = 7 ∧ l1 = [] ∧ l2 = [] ∧ s' = rest) ∨
        (w = 4 ∧ l1 = [] ∧ l2 ≠ [] ∧ s' = (p :: t :: l2) :: rest) ∨
        (w = 5 ∧ l1 ≠ [] ∧ l2 = [] ∧ s' = (t :: q :: l1) :: rest) ∨
        (w = 6 ∧ l1 ≠ [] ∧ l2 ≠ [] ∧ s' = (t :: q :: l1) :: (p :: t :: l2) :: rest)))
def mr_let (w : Nat) : Prop := w = 0 ∨ w = 4 ∨ w = 5 ∨ w = 6 ∨ w = 7
theorem mr_rs_let {w p q t : Nat} {s s' : List (List Nat)} (h : mr_rs w p q t s s') : mr_let w := by
  obtain ⟨tl, rest, _, ⟨h, _⟩ | ⟨l1, l2, _, ⟨h, _⟩ | ⟨h, _⟩ | ⟨h, _⟩ | ⟨h, _⟩⟩⟩ := h
  · exact Or.inl h
  · exact Or.inr (Or.inr (Or.inr (Or.inr h)))
  · exact Or.inr (Or.inl h)
  · exact Or.inr (Or.inr (Or.inl h))
  · exact Or.inr (Or.inr (Or.inr (Or.inl h)))
def mr_l6 : List Nat → List Nat
  | o :: l :: r => (l + (o - 1)) :: r
  | _ => []
def mr_l0 : List Nat → List Nat
  | l :: r => (l - 1) :: r
  | [] => []
def mr_l1 : List Nat → List Nat
  | l :: r => (l + 1) :: r
  | [] => []
def mr_ln (w : Nat) (ls : List Nat) : List Nat :=
  if w = 7 then 3 :: ls else if w = 6 then mr_l6 ls else if w = 0 then mr_l0 ls else mr_l1 ls
def mr_lens : List Nat → List Nat
  | [] => []
  | w :: ws => mr_ln w (mr_lens ws)
theorem mr_rs_len {w p q t : Nat} {s s' : List (List Nat)} (h : mr_rs w p q t s s') : s.map List.length = mr_ln w (s'.map List.length) := by
  obtain ⟨tl, rest, rfl, ⟨rfl, rfl⟩ | ⟨l1, l2, rfl, ⟨rfl, rfl, rfl, rfl⟩ | ⟨rfl, rfl, h2, rfl⟩ | ⟨rfl, h1, rfl, rfl⟩ | ⟨rfl, h1, h2, rfl⟩⟩⟩ := h
  · simp [mr_ln, mr_l0]
  · simp [mr_ln]
  · simp [mr_ln, mr_l1]
  · simp [mr_ln, mr_l1]
  · simp [mr_ln, mr_l6]; omega
def mr_num (w t v v' : Nat) : Prop := (w = 0 ∧ t = v ∧ v' = v + 1) ∨ (w ≠ 0 ∧ t < v ∧ v' = v)
def mr_nr : List (Nat × Nat × Nat) → List Nat → List (List Nat) → Nat → List (List Nat) → Nat → Prop
  | [], [], s, v, s', v' => s = s' ∧ v = v'
  | τ :: T, w :: ws, s, v, s', v' => ∃ s1 v1, mr_rs w τ.1 τ.2.1 τ.2.2 s s1 ∧ mr_num w τ.2.2 v v1 ∧ mr_nr T ws s1 v1 s' v'
  | _, _, _, _, _, _ => False
theorem mr_nr_len {T : List (Nat × Nat × Nat)} : ∀ {ws : List Nat} {s : List (List Nat)} {v : Nat} {s' : List (List Nat)} {v' : Nat}, mr_nr T ws s v s' v' → T.length = ws.length := by
  induction T with
  | nil =>
    intro ws s v s' v' h
    cases ws with
    | nil => rfl
    | cons w ws => exact h.elim
  | cons τ T ih =>
    intro ws s v s' v' h
    cases ws with
    | nil => exact h.elim
    | cons w ws =>
      obtain ⟨s1, v1, _, _, h⟩ := h
      rw [List.length_cons, List.length_cons, ih h]
theorem mr_nr_let {T : List (Nat × Nat × Nat)} : ∀ {ws : List Nat} {s : List (List Nat)} {v : Nat} {s' : List (List Nat)} {v' : Nat}, mr_nr T ws s v s' v' → ∀ w, w ∈ ws → mr_let w := by
  induction T with
  | nil =>
    intro ws s v s' v' h
    cases ws with
    | nil => exact fun w hw => nomatch hw
    | cons w ws => exact h.elim
  | cons τ T ih =>
    intro ws s v s' v' h
    cases ws with
    | nil => exact h.elim
    | cons w ws =>
      obtain ⟨s1, v1, h1, _, h⟩ := h
      intro x hx
      rcases List.mem_cons.mp hx with rfl | hx
      · exact mr_rs_let h1
      · exact ih h x hx
theorem mr_nr_app {T : List (Nat × Nat × Nat)} : ∀ {ws : List Nat} {s : List (List Nat)} {v : Nat} {s1 : List (List Nat)} {v1 : Nat} {T' : List (Nat × Nat × Nat)} {ws' : List Nat} {s' : List (List Nat)} {v' : Nat}, mr_nr T ws s v s1 v1 → mr_nr T' ws' s1 v1 s' v' → mr_nr (T ++ T') (ws ++ ws') s v s' v' := by
  induction T with
  | nil =>
    intro ws s v s1 v1 T' ws' s' v' h h'
    cases ws with
    | nil => obtain ⟨rfl, rfl⟩ := h; exact h'
    | cons w ws => exact h.elim
  | cons τ T ih =>
    intro ws s v s1 v1 T' ws' s' v' h h'
    cases ws with
    | nil => exact h.elim
    | cons w ws =>
      obtain ⟨s2, v2, h1, h2, h⟩ := h
      exact ⟨s2, v2, h1, h2, ih h h'⟩
theorem mr_nr_one {w p q t v v' : Nat} {s s' : List (List Nat)} (h : mr_rs w p q t s s') (h' : mr_num w t v v') : mr_nr [(p, q, t)] [w] s v s' v' := ⟨s', v', h, h', rfl, rfl⟩
theorem mr_nr_lens {T : List (Nat × Nat × Nat)} : ∀ {ws : List Nat} {s : List (List Nat)} {v : Nat} {v' : Nat}, mr_nr T ws s v [] v' → s.map List.length = mr_lens ws := by
  induction T with
  | nil =>
    intro ws s v v' h
    cases ws with
    | nil => obtain ⟨rfl, rfl⟩ := h; rfl
    | cons w ws => exact h.elim
  | cons τ T ih =>
    intro ws s v v' h
    cases ws with
    | nil => exact h.elim
    | cons w ws =>
      obtain ⟨s2, v2, h1, h2, h⟩ := h
      rw [mr_rs_len h1, ih h]
      rfl
theorem mr_nr_cnt {T : List (Nat × Nat × Nat)} : ∀ {ws : List Nat} {s : List (List Nat)} {v : Nat} {s' : List (List Nat)} {v' : Nat}, mr_nr T ws s v s' v' → v' = v + ws.count 0 := by
  induction T with
  | nil =>
    intro ws s v s' v' h
    cases ws with
    | nil => obtain ⟨rfl, rfl⟩ := h; rfl
    | cons w ws => exact h.elim
  | cons τ T ih =>
    intro ws s v s' v' h
    cases ws with
    | nil => exact h.elim
    | cons w ws =>
      obtain ⟨s2, v2, h1, h2, h⟩ := h
      rw [ih h]
      rcases h2 with ⟨rfl, _, rfl⟩ | ⟨hw, _, rfl⟩
      · rw [List.count_cons_self]; omega
      · rw [List.count_cons_of_ne hw]
theorem mr_rs_det {w p q t p' q' t' : Nat} {s s1 s1' : List (List Nat)} (h : mr_rs w p q t s s1) (h' : mr_rs w p' q' t' s s1') (h0 : w = 0 → t = t') (hl : s1.map List.length = s1'.map List.length) : p = p' ∧ q = q' ∧ t = t' ∧ s1 = s1' := by
  obtain ⟨tl, rest, rfl, h⟩ := h
  obtain ⟨tl', rest', e, h'⟩ := h'
  simp only [List.cons.injEq] at e
  obtain ⟨⟨rfl, rfl, rfl⟩, rfl⟩ := e
  refine ⟨rfl, rfl, ?_⟩
  rcases h with ⟨rfl, rfl⟩ | ⟨l1, l2, rfl, h⟩
  · rcases h' with ⟨_, rfl⟩ | ⟨l1', l2', e, ⟨e', _⟩ | ⟨e', _⟩ | ⟨e', _⟩ | ⟨e', _⟩⟩
    · have := h0 rfl
      subst this
      exact ⟨rfl, rfl⟩
    all_goals exact absurd e' (by decide)
  · rcases h with ⟨rfl, rfl, rfl, rfl⟩ | ⟨rfl, rfl, h2, rfl⟩ | ⟨rfl, h1, rfl, rfl⟩ | ⟨rfl, h1, h2, rfl⟩
    · rcases h' with ⟨e', _⟩ | ⟨l1', l2', e, ⟨_, rfl, rfl, rfl⟩ | ⟨e', _⟩ | ⟨e', _⟩ | ⟨e', _⟩⟩
      · exact absurd e' (by decide)
      · simp at e
        exact ⟨e, rfl⟩
      all_goals exact absurd e' (by decide)
    · rcases h' with ⟨e', _⟩ | ⟨l1', l2', e, ⟨e', _⟩ | ⟨_, rfl, _, rfl⟩ | ⟨e', _⟩ | ⟨e', _⟩⟩
      · exact absurd e' (by decide)
      · exact absurd e' (by decide)
      · simp at e
        obtain ⟨rfl, rfl⟩ := e
        exact ⟨rfl, rfl⟩
      all_goals exact absurd e' (by decide)
    · rcases h' with ⟨e', _⟩ | ⟨l1', l2', e, ⟨e', _⟩ | ⟨e', _⟩ | ⟨_, _, rfl, rfl⟩ | ⟨e', _⟩⟩
      · exact absurd e' (by decide)
      · exact absurd e' (by decide)
      · exact absurd e' (by decide)
      · have e2 := List.append_inj' e rfl
        obtain ⟨rfl, e3⟩ := e2
        simp at e3
        subst e3
        exact ⟨rfl, rfl⟩
      · exact absurd e' (by decide)
    · rcases h' with ⟨e', _⟩ | ⟨l1', l2', e, ⟨e', _⟩ | ⟨e', _⟩ | ⟨e', _⟩ | ⟨_, _, _, rfl⟩⟩
      · exact absurd e' (by decide)
      · exact absurd e' (by decide)
      · exact absurd e' (by decide)
      · exact absurd e' (by decide)
      · simp only [List.map_cons, List.length_cons, List.cons.injEq] at hl
        have e2 := List.append_inj e (by omega)
        obtain ⟨rfl, e3⟩ := e2
        simp only [List.cons.injEq] at e3
        obtain ⟨rfl, rfl⟩ := e3
        exact ⟨rfl, rfl⟩
/-- the word determines the triangles -/
theorem mr_uT {ws : List Nat} : ∀ {T T' : List (Nat × Nat × Nat)} {s : List (List Nat)} {v e e' : Nat}, mr_nr T ws s v [] e → mr_nr T' ws s v [] e' → T = T' := by
  induction ws with
  | nil =>
    intro T T' s v e e' h h'
    cases T with
    | cons τ T => exact h.elim
    | nil =>
      cases T' with
      | cons τ T => exact h'.elim
      | nil => rfl
  | cons w ws ih =>
    intro T T' s v e e' h h'
    cases T with
    | nil => exact h.elim
    | cons τ T =>
      cases T' with
      | nil => exact h'.elim
      | cons τ' T' =>
        obtain ⟨p, q, t⟩ := τ
        obtain ⟨p', q', t'⟩ := τ'
        obtain ⟨s1, v1, a1, a2, a3⟩ := h
        obtain ⟨s1', v1', b1, b2, b3⟩ := h'
        dsimp only at a1 a2 b1 b2
        obtain ⟨rfl, rfl, rfl, rfl⟩ := mr_rs_det a1 b1 (by
          rintro rfl
          rcases a2 with ⟨_, a2, _⟩ | ⟨z, _⟩
          · rcases b2 with ⟨_, b2, _⟩ | ⟨z, _⟩
            · exact a2.trans b2.symm
            · exact absurd rfl z
          · exact absurd rfl z) ((mr_nr_lens a3).trans (mr_nr_lens b3).symm)
        have : v1 = v1' := by
          rcases a2 with ⟨rfl, _, a2⟩ | ⟨z, _, a2⟩
          · rcases b2 with ⟨_, _, b2⟩ | ⟨z, _⟩
            · exact a2.trans b2.symm
            · exact absurd rfl z
          · rcases b2 with ⟨z', _⟩ | ⟨_, _, b2⟩
            · exact absurd z' z
            · exact a2.trans b2.symm
        subst this
        rw [ih a3 b3]
theorem mr_split {l1 l1' l2 l2' : List Nat} {t : Nat} (e : l1 ++ t :: l2 = l1' ++ t :: l2') (h : t ∉ l1) (h' : t ∉ l1') : l1 = l1' ∧ l2 = l2' := by
  induction l1 generalizing l1' with
  | nil =>
    cases l1' with
    | nil => simp at e; exact ⟨rfl, e⟩
    | cons y l => simp at e; exact absurd (List.mem_cons.mpr (Or.inl e.1)) h'
  | cons x l1 ih =>
    cases l1' with
    | nil => simp at e; exact absurd (List.mem_cons.mpr (Or.inl e.1.symm)) h
    | cons y l =>
      simp at e
      obtain ⟨rfl, e⟩ := e
      obtain ⟨rfl, rfl⟩ := ih e (fun z => h (List.mem_cons_of_mem _ z)) (fun z => h' (List.mem_cons_of_mem _ z))
      exact ⟨rfl, rfl⟩
def mr_iv (Q : Nat → Prop) (s : List (List Nat)) : Prop := ∀ l, l ∈ s → l.Nodup ∧ 3 ≤ l.length ∧ ∀ x, x ∈ l → Q x
theorem mr_nd_t {p q t : Nat} {l1 l2 : List Nat} (h : (p :: q :: (l1 ++ t :: l2)).Nodup) : t ∉ l1 ∧ t ∉ l2 ∧ t ≠ p ∧ t ≠ q ∧ p ≠ q ∧ p ∉ l1 ∧ p ∉ l2 ∧ q ∉ l1 ∧ q ∉ l2 ∧ l1.Nodup ∧ l2.Nodup ∧ ∀ x, x ∈ l1 → x ∉ l2 := by
  simp only [List.nodup_cons, List.nodup_append, List.mem_cons, List.mem_append, not_or] at h
  obtain ⟨⟨a1, a2, a3, a4⟩, ⟨b1, b2, b3⟩, c1, ⟨c2, c3⟩, c4⟩ := h
  refine ⟨fun z => c4 t z t (Or.inl rfl) rfl, c2, fun z => a3 z.symm, fun z => b2 z.symm, a1, a2, a4, b1, b3, c1, c3, fun x hx hx' => c4 x hx x (Or.inr hx') rfl⟩
theorem mr_iv_rs {Q Q' : Nat → Prop} {w p q t : Nat} {s s' : List (List Nat)} (h : mr_rs w p q t s s') (hi : mr_iv Q s) (h0 : w = 0 → ¬ Q t) (hQ : ∀ x, Q x → Q' x) (h0' : w = 0 → Q' t) : mr_iv Q' s' := by
  obtain ⟨tl, rest, rfl, h⟩ := h
  obtain ⟨i1, i2, i3⟩ := hi _ (List.mem_cons_self)
  have ir : mr_iv Q' rest := fun l hl => ⟨(hi l (List.mem_cons_of_mem _ hl)).1, (hi l (List.mem_cons_of_mem _ hl)).2.1, fun x hx => hQ x ((hi l (List.mem_cons_of_mem _ hl)).2.2 x hx)⟩
  have ic : ∀ l r, (l.Nodup ∧ 3 ≤ l.length ∧ ∀ x, x ∈ l → Q' x) → mr_iv Q' r → mr_iv Q' (l :: r) := by
    intro l r a b l' hl'
    rcases List.mem_cons.mp hl' with rfl | hl'
    · exact a
    · exact b l' hl'
  rcases h with ⟨rfl, rfl⟩ | ⟨l1, l2, rfl, h⟩
  · have ht : t ∉ p :: q :: tl := fun z => h0 rfl (i3 t z)
    refine ic _ _ ⟨?_, ?_, ?_⟩ ir
    · simp only [List.nodup_cons, List.nodup_append, List.mem_cons, List.mem_append, not_or] at i1 ht ⊢
      obtain ⟨⟨a1, a2⟩, b1, c1⟩ := i1
      obtain ⟨d1, d2, d3⟩ := ht
      refine ⟨⟨d2, d3, d1, fun z => nomatch z⟩, ⟨b1, fun z => a1 z.symm, fun z => nomatch z⟩, c1, ⟨(fun z => nomatch z), List.nodup_nil⟩, ?_⟩
      intro x hx y hy e
      rcases hy with rfl | hy
      · subst e; exact a2 hx
      · exact nomatch hy
    · simp only [List.length_cons, List.length_append]; omega
    · intro x hx
      simp only [List.mem_cons, List.mem_append] at hx
      rcases hx with rfl | rfl | hx | rfl | hx
      · exact h0' rfl
      · exact hQ _ (i3 _ (by simp))
      · exact hQ _ (i3 _ (by simp [hx]))
      · exact hQ _ (i3 _ (by simp))
      · exact nomatch hx
  · obtain ⟨n1, n2, n3, n4, n5, n6, n7, n8, n9, n10, n11, n12⟩ := mr_nd_t i1
    have q1 : Q' p := hQ _ (i3 _ (by simp))
    have q2 : Q' q := hQ _ (i3 _ (by simp))
    have q3 : Q' t := hQ _ (i3 _ (by simp))
    have q4 : ∀ x, x ∈ l1 → Q' x := fun x hx => hQ _ (i3 _ (by simp [hx]))
    have q5 : ∀ x, x ∈ l2 → Q' x := fun x hx => hQ _ (i3 _ (by simp [hx]))
    have m1 : l2 ≠ [] → (p :: t :: l2).Nodup ∧ 3 ≤ (p :: t :: l2).length ∧ ∀ x, x ∈ p :: t :: l2 → Q' x := by
      intro hl
      refine ⟨?_, ?_, ?_⟩
      · simp only [List.nodup_cons, List.mem_cons, not_or]
        exact ⟨⟨fun z => n3 z.symm, n7⟩, n2, n11⟩
      · cases l2 with
        | nil => exact absurd rfl hl
        | cons y l => simp only [List.length_cons]; omega
      · intro x hx
        simp only [List.mem_cons] at hx
        rcases hx with rfl | rfl | hx
        · exact q1
        · exact q3
        · exact q5 x hx
    have m2 : l1 ≠ [] → (t :: q :: l1).Nodup ∧ 3 ≤ (t :: q :: l1).length ∧ ∀ x, x ∈ t :: q :: l1 → Q' x := by
      intro hl
      refine ⟨?_, ?_, ?_⟩
      · simp only [List.nodup_cons, List.mem_cons, not_or]
        exact ⟨⟨n4, n1⟩, n8, n10⟩
      · cases l1 with
        | nil => exact absurd rfl hl
        | cons y l => simp only [List.length_cons]; omega
      · intro x hx
        simp only [List.mem_cons] at hx
        rcases hx with rfl | rfl | hx
        · exact q3
        · exact q2
        · exact q4 x hx
    rcases h with ⟨rfl, rfl, rfl, rfl⟩ | ⟨rfl, rfl, h2, rfl⟩ | ⟨rfl, h1, rfl, rfl⟩ | ⟨rfl, h1, h2, rfl⟩
    · exact ir
    · exact ic _ _ (m1 h2) ir
    · exact ic _ _ (m2 h1) ir
    · exact ic _ _ (m2 h1) (ic _ _ (m1 h2) ir)
theorem mr_iv_num {w p q t v v' : Nat} {s s' : List (List Nat)} (h : mr_rs w p q t s s') (hn : mr_num w t v v') (hi : mr_iv (· < v) s) : mr_iv (· < v') s' := by
  refine mr_iv_rs h hi ?_ ?_ ?_
  · rintro rfl
    rcases hn with ⟨_, e, _⟩ | ⟨z, _⟩
    · omega
    · exact absurd rfl z
  · intro x hx
    rcases hn with ⟨_, _, e⟩ | ⟨_, _, e⟩ <;> omega
  · rintro rfl
    rcases hn with ⟨_, e, e'⟩ | ⟨z, _⟩
    · omega
    · exact absurd rfl z
theorem mr_rs_det2 {w w' p q t : Nat} {s s1 s1' : List (List Nat)} (h : mr_rs w p q t s s1) (h' : mr_rs w' p q t s s1') (h0 : w = 0 ↔ w' = 0) (hn : ∀ l, l ∈ s → l.Nodup) : w = w' ∧ s1 = s1' := by
  obtain ⟨tl, rest, rfl, h⟩ := h
  obtain ⟨tl', rest', e, h'⟩ := h'
  simp only [List.cons.injEq, true_and] at e
  obtain ⟨rfl, rfl⟩ := e
  have nd := hn _ (List.mem_cons_self)
  rcases h with ⟨rfl, rfl⟩ | ⟨l1, l2, rfl, h⟩
  · have := h0.mp rfl
    subst this
    rcases h' with ⟨_, rfl⟩ | ⟨l1', l2', e, ⟨e', _⟩ | ⟨e', _⟩ | ⟨e', _⟩ | ⟨e', _⟩⟩
    · exact ⟨rfl, rfl⟩
    all_goals exact absurd e' (by decide)
  · rcases h' with ⟨rfl, _⟩ | ⟨l1', l2', e, h'⟩
    · have := h0.mpr rfl
      subst this
      rcases h with ⟨e', _⟩ | ⟨e', _⟩ | ⟨e', _⟩ | ⟨e', _⟩ <;> exact absurd e' (by decide)
    · have t1 := (mr_nd_t nd).1
      rw [e] at nd
      have t2 := (mr_nd_t nd).1
      obtain ⟨rfl, rfl⟩ := mr_split e t1 t2
      rcases h with ⟨rfl, rfl, rfl, rfl⟩ | ⟨rfl, rfl, h2, rfl⟩ | ⟨rfl, h1, rfl, rfl⟩ | ⟨rfl, h1, h2, rfl⟩ <;>
      rcases h' with ⟨rfl, a1, a2, rfl⟩ | ⟨rfl, a1, a2, rfl⟩ | ⟨rfl, a1, a2, rfl⟩ | ⟨rfl, a1, a2, rfl⟩ <;>
      first
        | exact ⟨rfl, rfl⟩
        | exact absurd rfl a1
        | exact absurd rfl a2
        | exact absurd a1 h1
        | exact absurd a2 h2
/-- the triangles determine the word -/
theorem mr_uW {T : List (Nat × Nat × Nat)} : ∀ {ws ws' : List Nat} {s : List (List Nat)} {v : Nat} {s' : List (List Nat)} {e : Nat} {s'' : List (List Nat)} {e' : Nat}, mr_iv (· < v) s → mr_nr T ws s v s' e → mr_nr T ws' s v s'' e' → ws = ws' := by
  induction T with
  | nil =>
    intro ws ws' s v s' e s'' e' _ h h'
    cases ws with
    | cons w ws => exact h.elim
    | nil =>
      cases ws' with
      | cons w ws => exact h'.elim
      | nil => rfl
  | cons τ T ih =>
    intro ws ws' s v s' e s'' e' hi h h'
    cases ws with
    | nil => exact h.elim
    | cons w ws =>
      cases ws' with
      | nil => exact h'.elim
      | cons w' ws' =>
        obtain ⟨s1, v1, a1, a2, a3⟩ := h
        obtain ⟨s1', v1', b1, b2, b3⟩ := h'
        have h0 : w = 0 ↔ w' = 0 := by
          rcases a2 with ⟨x, y, _⟩ | ⟨x, y, _⟩ <;> rcases b2 with ⟨x', y', _⟩ | ⟨x', y', _⟩
          · exact ⟨fun _ => x', fun _ => x⟩
          · omega
          · omega
          · exact ⟨fun z => absurd z x, fun z => absurd z x'⟩
        obtain ⟨rfl, rfl⟩ := mr_rs_det2 a1 b1 h0 (fun l hl => (hi l hl).1)
        have : v1 = v1' := by
          rcases a2 with ⟨x, y, z⟩ | ⟨x, y, z⟩ <;> rcases b2 with ⟨x', y', z'⟩ | ⟨x', y', z'⟩ <;> omega
        subst this
        rw [ih (mr_iv_num a1 a2 hi) a3 b3]
end
section
/-! letters as bits; the pure peeling of a draft and what a whole peeling yields -/
def mr_cd (w : Nat) : List Bool := if w = 0 then [false] else [true, w.testBit 1, w.testBit 0]
def mr_cb : List Nat → List Bool
  | [] => []
  | w :: ws => mr_cd w ++ mr_cb ws
theorem mr_cd0 : mr_cd 0 = [false] := by decide
theorem mr_cd4 : mr_cd 4 = [true, false, false] := by decide
theorem mr_cd5 : mr_cd 5 = [true, false, true] := by decide
theorem mr_cd6 : mr_cd 6 = [true, true, false] := by decide
theorem mr_cd7 : mr_cd 7 = [true, true, true] := by decide
theorem mr_cb_snoc (ws : List Nat) (w : Nat) : mr_cb (ws ++ [w]) = mr_cb ws ++ mr_cd w := by
  induction ws with
  | nil => simp [mr_cb]
  | cons x ws ih => simp [mr_cb, ih]
theorem mr_cd_len (w : Nat) : (mr_cd w).length ≤ 3 := by
  unfold mr_cd
  split <;> simp
theorem mr_cb_len (ws : List Nat) : (mr_cb ws).length ≤ 3 * ws.length := by
  induction ws with
  | nil => simp [mr_cb]
  | cons x ws ih =>
    have := mr_cd_len x
    simp only [mr_cb, List.length_append, List.length_cons]
    omega
theorem mr_cb_inj : ∀ {ws ws' : List Nat}, ws.length = ws'.length → (∀ w, w ∈ ws → mr_let w) → (∀ w, w ∈ ws' → mr_let w) → (∀ j, (mr_cb ws).getD j false = (mr_cb ws').getD j false) → ws = ws' := by
  intro ws
  induction ws with
  | nil =>
    intro ws' hl _ _ _
    cases ws' with
    | nil => rfl
    | cons x l => simp at hl
  | cons w ws ih =>
    intro ws' hl h1 h2 h
    cases ws' with
    | nil => simp at hl
    | cons w' ws' =>
      have a1 := h1 w (by simp)
      have a2 := h2 w' (by simp)
      have b1 : ∀ x, x ∈ ws → mr_let x := fun x hx => h1 x (by simp [hx])
      have b2 : ∀ x, x ∈ ws' → mr_let x := fun x hx => h2 x (by simp [hx])
      have b3 : ws.length = ws'.length := by simpa using hl
      have k0 := h 0
      have k1 := h 1
      have k2 := h 2
      rcases a1 with rfl | rfl | rfl | rfl | rfl <;> rcases a2 with rfl | rfl | rfl | rfl | rfl <;>
      first
        | (simp [mr_cb, mr_cd0, mr_cd4, mr_cd5, mr_cd6, mr_cd7] at k0; done)
        | (simp [mr_cb, mr_cd0, mr_cd4, mr_cd5, mr_cd6, mr_cd7] at k1; done)
        | (simp [mr_cb, mr_cd0, mr_cd4, mr_cd5, mr_cd6, mr_cd7] at k2; done)
        | exact congrArg _ (ih b3 b1 b2 (fun j => by have z := h (j + 3); simpa [mr_cb, mr_cd0, mr_cd4, mr_cd5, mr_cd6, mr_cd7] using z))
        | exact congrArg _ (ih b3 b1 b2 (fun j => by have z := h (j + 1); simpa [mr_cb, mr_cd0, mr_cd4, mr_cd5, mr_cd6, mr_cd7] using z))
/-- some turn of the triangle (p, q, t) is in the list -/
def mr_in (P : List (Nat × Nat × Nat)) (p q t : Nat) : Prop := (p, q, t) ∈ P ∨ (q, t, p) ∈ P ∨ (t, p, q) ∈ P
theorem mr_in_rot {P : List (Nat × Nat × Nat)} {p q t : Nat} : mr_in P p q t ↔ mr_in P q t p := by
  unfold mr_in
  constructor
  · rintro (h | h | h)
    · exact Or.inr (Or.inr h)
    · exact Or.inl h
    · exact Or.inr (Or.inl h)
  · rintro (h | h | h)
    · exact Or.inr (Or.inl h)
    · exact Or.inr (Or.inr h)
    · exact Or.inl h
theorem mr_in_app {P P' : List (Nat × Nat × Nat)} {p q t : Nat} : mr_in (P ++ P') p q t ↔ (mr_in P p q t ∨ mr_in P' p q t) := by
  unfold mr_in
  simp only [List.mem_append]
  constructor
  · rintro ((h | h) | (h | h) | (h | h))
    · exact Or.inl (Or.inl h)
    · exact Or.inr (Or.inl h)
    · exact Or.inl (Or.inr (Or.inl h))
    · exact Or.inr (Or.inr (Or.inl h))
    · exact Or.inl (Or.inr (Or.inr h))
    · exact Or.inr (Or.inr (Or.inr h))
  · rintro ((h | h | h) | (h | h | h))
    · exact Or.inl (Or.inl h)
    · exact Or.inr (Or.inl (Or.inl h))
    · exact Or.inr (Or.inr (Or.inl h))
    · exact Or.inl (Or.inr h)
    · exact Or.inr (Or.inl (Or.inr h))
    · exact Or.inr (Or.inr (Or.inr h))
def mr_tri (d : Nat → Nat) (f : Nat) (P : List (Nat × Nat × Nat)) : Prop := mr_in P (d (3 * f)) (d (3 * f + 1)) (d (3 * f + 2))
theorem mr_c3 (c : Nat) : ∃ i, c = 3 * i ∨ c = 3 * i + 1 ∨ c = 3 * i + 2 := ⟨c / 3, by omega⟩
theorem mr_tri_at (d : Nat → Nat) (c : Nat) (P : List (Nat × Nat × Nat)) : mr_in P (d c) (d (mq_nx c)) (d (mq_nx (mq_nx c))) ↔ mr_tri d (c / 3) P := by
  unfold mr_tri
  obtain ⟨i, rfl | rfl | rfl⟩ := mr_c3 c
  · rw [mq_0, mq_1, show 3 * i / 3 = i by omega]
  · rw [mq_1, mq_2, show (3 * i + 1) / 3 = i by omega, mr_in_rot, mr_in_rot]
  · rw [mq_2, mq_0, show (3 * i + 2) / 3 = i by omega, mr_in_rot]
theorem mr_tri_put {n V : Nat} {d : Nat → Nat} (hd : md_Ok n V d) {c i : Nat} (hc : c < 3 * n) (hi : i < n) {P : List (Nat × Nat × Nat)} :
    mr_tri d i (P ++ [(d c, d (mq_nx c), d (mq_nx (mq_nx c)))]) ↔ (mr_tri d i P ∨ i = c / 3) := by
  have key : mr_tri d i [(d c, d (mq_nx c), d (mq_nx (mq_nx c)))] ↔ i = c / 3 := by
    constructor
    · unfold mr_tri mr_in
      simp only [List.mem_singleton, Prod.mk.injEq]
      rintro (⟨a, b, _⟩ | ⟨a, b, _⟩ | ⟨a, b, _⟩)
      · have := hd.2.2 (3 * i) c (by omega) hc a (by rw [mq_0]; exact b)
        omega
      · have := hd.2.2 (3 * i + 1) c (by omega) hc a (by rw [mq_1]; exact b)
        omega
      · have := hd.2.2 (3 * i + 2) c (by omega) hc a (by rw [mq_2]; exact b)
        omega
    · rintro rfl
      rw [← mr_tri_at]
      exact Or.inl (List.mem_singleton.mpr rfl)
  rw [← key]
  unfold mr_tri
  rw [mr_in_app]
theorem mr_cnt_put {n V : Nat} {d : Nat → Nat} (hd : md_Ok n V d) {p q t : Nat} {P : List (Nat × Nat × Nat)} (h : md_T n d p q t) (hn : ¬ mr_in P p q t) :
    mb_cn (fun f => mr_tri d f (P ++ [(p, q, t)])) n = mb_cn (fun f => mr_tri d f P) n + 1 := by
  obtain ⟨c, hc, rfl, rfl, rfl⟩ := h
  rw [mr_tri_at] at hn
  exact mb_cn_put (k := c / 3) (by omega) hn (fun i hi => mr_tri_put hd hc hi)
def mr_m3 (ν : Nat → Nat) (τ : Nat × Nat × Nat) : Nat × Nat × Nat := (ν τ.1, ν τ.2.1, ν τ.2.2)
theorem mr_rs_map {ν : Nat → Nat} {w p q t : Nat} {s s' : List (List Nat)} (h : mr_rs w p q t s s') : mr_rs w (ν p) (ν q) (ν t) (s.map (List.map ν)) (s'.map (List.map ν)) := by
  obtain ⟨tl, rest, rfl, h⟩ := h
  refine ⟨tl.map ν, rest.map (List.map ν), by simp, ?_⟩
  rcases h with ⟨rfl, rfl⟩ | ⟨l1, l2, rfl, h⟩
  · exact Or.inl ⟨rfl, by simp⟩
  · refine Or.inr ⟨l1.map ν, l2.map ν, by simp, ?_⟩
    rcases h with ⟨rfl, rfl, rfl, rfl⟩ | ⟨rfl, rfl, h2, rfl⟩ | ⟨rfl, h1, rfl, rfl⟩ | ⟨rfl, h1, h2, rfl⟩
    · exact Or.inl ⟨rfl, by simp⟩
    · exact Or.inr (Or.inl ⟨rfl, rfl, by simpa using h2, by simp⟩)
    · exact Or.inr (Or.inr (Or.inl ⟨rfl, by simpa using h1, rfl, by simp⟩))
    · exact Or.inr (Or.inr (Or.inr ⟨rfl, by simpa using h1, by simpa using h2, by simp⟩))
/-- a good peeling step: letter, triangle, new loops, new numbers -/
def mr_pe (Tp : Nat → Nat → Nat → Prop) (s : List (List Nat)) (vs : List Nat) (P : List (Nat × Nat × Nat)) (ws : List Nat) (s' : List (List Nat)) (vs' : List Nat) (P' : List (Nat × Nat × Nat)) (ws' : List Nat) : Prop :=
  ∃ w p q t, mr_rs w p q t s s' ∧ ((w = 0 ∧ t ∉ vs ∧ vs' = vs ++ [t]) ∨ (w ≠ 0 ∧ t ∈ vs ∧ vs' = vs)) ∧ Tp p q t ∧ ¬ mr_in P p q t ∧ P' = P ++ [(p, q, t)] ∧ ws' = ws ++ [w]
def mr_pr (Tp : Nat → Nat → Nat → Prop) : Nat → List (List Nat) → List Nat → List (Nat × Nat × Nat) → List Nat → Option (List Nat × List (Nat × Nat × Nat) × List Nat) → Prop
  | 0, s, vs, P, ws, r => (s = [] ∧ r = some (vs, P, ws)) ∨ (s ≠ [] ∧ r = none)
  | k + 1, s, vs, P, ws, r => (s = [] ∧ r = some (vs, P, ws)) ∨ (s ≠ [] ∧
      ((∃ s' vs' P' ws', mr_pe Tp s vs P ws s' vs' P' ws' ∧ mr_pr Tp k s' vs' P' ws' r) ∨ ((∀ s' vs' P' ws', ¬ mr_pe Tp s vs P ws s' vs' P' ws') ∧ r = none)))
theorem mr_pr_ex (Tp : Nat → Nat → Nat → Prop) (k : Nat) : ∀ s vs P ws, ∃ r, mr_pr Tp k s vs P ws r := by
  induction k with
  | zero =>
    intro s vs P ws
    by_cases h : s = []
    · exact ⟨_, Or.inl ⟨h, rfl⟩⟩
    · exact ⟨_, Or.inr ⟨h, rfl⟩⟩
  | succ k ih =>
    intro s vs P ws
    by_cases h : s = []
    · exact ⟨_, Or.inl ⟨h, rfl⟩⟩
    · by_cases h2 : ∃ s' vs' P' ws', mr_pe Tp s vs P ws s' vs' P' ws'
      · obtain ⟨s', vs', P', ws', h2⟩ := h2
        obtain ⟨r, hr⟩ := ih s' vs' P' ws'
        exact ⟨r, Or.inr ⟨h, Or.inl ⟨s', vs', P', ws', h2, hr⟩⟩⟩
      · exact ⟨none, Or.inr ⟨h, Or.inr ⟨fun s' vs' P' ws' z => h2 ⟨s', vs', P', ws', z⟩, rfl⟩⟩⟩
theorem mr_pr_iff {Tp Tp' : Nat → Nat → Nat → Prop} (h : ∀ p q t, Tp p q t ↔ Tp' p q t) : Tp = Tp' := by
  funext p q t
  exact propext (h p q t)
def mr_I (n V : Nat) (d : Nat → Nat) (bs : List Nat) (s : List (List Nat)) (vs : List Nat) (P : List (Nat × Nat × Nat)) (ws : List Nat) : Prop :=
  mr_iv (· ∈ vs) s ∧ vs.Nodup ∧ (∀ x, x ∈ vs → x < V) ∧ (∃ ex, vs = bs ++ ex) ∧
  (∀ p q t, (p, q, t) ∈ P → md_T n d p q t ∧ p ∈ vs ∧ q ∈ vs ∧ t ∈ vs) ∧
  P.Pairwise (fun a b => ¬ mr_in [a] b.1 b.2.1 b.2.2) ∧
  mb_cn (fun f => mr_tri d f P) n = P.length ∧ P.length = ws.length ∧
  (∀ ν : Nat → Nat, (∀ i, i < vs.length → ν (vs.getD i 0) = i) → mr_nr (P.map (mr_m3 ν)) ws [bs.map ν] bs.length (s.map (List.map ν)) vs.length)
theorem mr_getD_app {l : List Nat} {x i : Nat} (h : i < l.length) : (l ++ [x]).getD i 0 = l.getD i 0 := by
  rw [List.getD_eq_getElem?_getD, List.getD_eq_getElem?_getD, List.getElem?_append_left h]
theorem mr_getD_last {l : List Nat} {x : Nat} : (l ++ [x]).getD l.length 0 = x := by
  rw [List.getD_eq_getElem?_getD, List.getElem?_append_right (Nat.le_refl _)]
  simp
theorem mr_mem_getD {l : List Nat} {x : Nat} (h : x ∈ l) : ∃ i, i < l.length ∧ l.getD i 0 = x := by
  obtain ⟨i, hi, e⟩ := List.mem_iff_getElem.mp h
  exact ⟨i, hi, by rw [List.getD_eq_getElem?_getD, List.getElem?_eq_getElem hi, e]; rfl⟩
theorem mr_I_step {n V : Nat} {d : Nat → Nat} (hd : md_Ok n V d) {bs : List Nat} {s : List (List Nat)} {vs : List Nat} {P : List (Nat × Nat × Nat)} {ws : List Nat} {s' : List (List Nat)} {vs' : List Nat} {P' : List (Nat × Nat × Nat)} {ws' : List Nat}
    (hI : mr_I n V d bs s vs P ws) (h : mr_pe (md_T n d) s vs P ws s' vs' P' ws') : mr_I n V d bs s' vs' P' ws' := by
  obtain ⟨i1, i2, i3, ⟨ex, i4⟩, i5, i6, i7, i8, i9⟩ := hI
  obtain ⟨w, p, q, t, h1, h2, h3, h4, rfl, rfl⟩ := h
  have hmono : ∀ x, x ∈ vs → x ∈ vs' := by
    intro x hx
    rcases h2 with ⟨_, _, rfl⟩ | ⟨_, _, rfl⟩
    · exact List.mem_append_left _ hx
    · exact hx
  have ht : t ∈ vs' := by
    rcases h2 with ⟨_, _, rfl⟩ | ⟨_, hm, rfl⟩
    · exact List.mem_append_right _ (List.mem_singleton.mpr rfl)
    · exact hm
  have hp : p ∈ vs ∧ q ∈ vs := by
    obtain ⟨tl, rest, rfl, _⟩ := h1
    obtain ⟨_, _, z⟩ := i1 _ (List.mem_cons_self)
    exact ⟨z p (by simp), z q (by simp)⟩
  refine ⟨?_, ?_, ?_, ?_, ?_, ?_, ?_, ?_, ?_⟩
  · refine mr_iv_rs h1 i1 ?_ hmono (fun _ => ht)
    intro h0
    rcases h2 with ⟨_, hm, _⟩ | ⟨hw, _⟩
    · exact hm
    · exact absurd h0 hw
  · rcases h2 with ⟨_, hm, rfl⟩ | ⟨_, _, rfl⟩
    · rw [List.nodup_append]
      refine ⟨i2, by simp, fun a ha b hb e => ?_⟩
      rw [List.mem_singleton.mp hb] at e
      exact hm (e ▸ ha)
    · exact i2
  · intro x hx
    rcases h2 with ⟨_, hm, rfl⟩ | ⟨_, _, rfl⟩
    · rcases List.mem_append.mp hx with hx | hx
      · exact i3 x hx
      · rw [List.mem_singleton.mp hx]; exact (md_T_lt hd h3).2.2
    · exact i3 x hx
  · rcases h2 with ⟨_, hm, rfl⟩ | ⟨_, _, rfl⟩
    · exact ⟨ex ++ [t], by rw [i4, List.append_assoc]⟩
    · exact ⟨ex, i4⟩
  · intro p' q' t' hm
    rcases List.mem_append.mp hm with hm | hm
    · obtain ⟨a, b, c, e⟩ := i5 _ _ _ hm
      exact ⟨a, hmono _ b, hmono _ c, hmono _ e⟩
    · have := List.mem_singleton.mp hm
      simp only [Prod.mk.injEq] at this
      obtain ⟨rfl, rfl, rfl⟩ := this
      exact ⟨h3, hmono _ hp.1, hmono _ hp.2, ht⟩
  · rw [List.pairwise_append]
    refine ⟨i6, List.pairwise_singleton _ _, fun a ha b hb z => h4 ?_⟩
    rw [List.mem_singleton.mp hb] at z
    dsimp only at z
    rcases z with z | z | z
    · rw [← List.mem_singleton.mp z] at ha; exact Or.inl ha
    · rw [← List.mem_singleton.mp z] at ha; exact Or.inr (Or.inl ha)
    · rw [← List.mem_singleton.mp z] at ha; exact Or.inr (Or.inr ha)
  · rw [mr_cnt_put hd h3 h4, i7, List.length_append, List.length_singleton]
  · rw [List.length_append, List.length_append, i8, List.length_singleton, List.length_singleton]
  · intro ν hν
    have hν0 : ∀ i, i < vs.length → ν (vs.getD i 0) = i := by
      rcases h2 with ⟨_, hm, rfl⟩ | ⟨_, _, rfl⟩
      · intro i hi
        have := hν i (by rw [List.length_append]; omega)
        rwa [mr_getD_app hi] at this
      · exact hν
    have r0 := i9 ν hν0
    rw [List.map_append, List.map_singleton]
    refine mr_nr_app r0 (mr_nr_one (mr_rs_map h1) ?_)
    rcases h2 with ⟨hw, hm, rfl⟩ | ⟨hw, hm, rfl⟩
    · refine Or.inl ⟨hw, ?_, by rw [List.length_append, List.length_singleton]⟩
      have := hν vs.length (by rw [List.length_append, List.length_singleton]; omega)
      rwa [mr_getD_last] at this
    · obtain ⟨i, hi, e⟩ := mr_mem_getD hm
      refine Or.inr ⟨hw, ?_, rfl⟩
      rw [← e, hν0 i hi]
      exact hi
end
section
/-! a whole peeling, numbered: its triangles have the draft's sides, its boundary is 0 -> 1 -> .. -> 0 -/
def mr_fl (P : List (Nat × Nat × Nat)) (c : Nat) : Nat :=
  if c % 3 = 0 then (P.getD (c / 3) (0, 0, 0)).1 else if c % 3 = 1 then (P.getD (c / 3) (0, 0, 0)).2.1 else (P.getD (c / 3) (0, 0, 0)).2.2
theorem mr_fl0 (P : List (Nat × Nat × Nat)) (i : Nat) : mr_fl P (3 * i) = (P.getD i (0, 0, 0)).1 := by
  unfold mr_fl
  rw [if_pos (by omega), show 3 * i / 3 = i by omega]
theorem mr_fl1 (P : List (Nat × Nat × Nat)) (i : Nat) : mr_fl P (3 * i + 1) = (P.getD i (0, 0, 0)).2.1 := by
  unfold mr_fl
  rw [if_neg (by omega), if_pos (by omega), show (3 * i + 1) / 3 = i by omega]
theorem mr_fl2 (P : List (Nat × Nat × Nat)) (i : Nat) : mr_fl P (3 * i + 2) = (P.getD i (0, 0, 0)).2.2 := by
  unfold mr_fl
  rw [if_neg (by omega), if_neg (by omega), show (3 * i + 2) / 3 = i by omega]
theorem mr_getD3 {P : List (Nat × Nat × Nat)} {i : Nat} (h : i < P.length) : P.getD i (0, 0, 0) = P[i] := by
  rw [List.getD_eq_getElem?_getD, List.getElem?_eq_getElem h]; rfl
theorem mr_fl_at {P : List (Nat × Nat × Nat)} {i : Nat} (h : i < P.length) : P[i] = (mr_fl P (3 * i), mr_fl P (3 * i + 1), mr_fl P (3 * i + 2)) := by
  rw [mr_fl0, mr_fl1, mr_fl2, mr_getD3 h]
/-- the corner c of the list, seen from its own place, is a turn of the list's row -/
theorem mr_fl_in {P : List (Nat × Nat × Nat)} {c : Nat} (h : c < 3 * P.length) : mr_in [P.getD (c / 3) (0, 0, 0)] (mr_fl P c) (mr_fl P (mq_nx c)) (mr_fl P (mq_nx (mq_nx c))) := by
  have := mr_tri_at (mr_fl P) c [P.getD (c / 3) (0, 0, 0)]
  rw [this]
  refine Or.inl (List.mem_singleton.mpr ?_)
  rw [mr_fl0, mr_fl1, mr_fl2]
theorem mr_fl_T {Tp : Nat → Nat → Nat → Prop} (hr : ∀ p q t, Tp p q t → Tp q t p) {P : List (Nat × Nat × Nat)} (hP : ∀ p q t, (p, q, t) ∈ P → Tp p q t) {c : Nat} (h : c < 3 * P.length) : Tp (mr_fl P c) (mr_fl P (mq_nx c)) (mr_fl P (mq_nx (mq_nx c))) := by
  obtain ⟨i, hi⟩ := mr_c3 c
  have hi' : i < P.length := by omega
  have h0 : Tp (mr_fl P (3 * i)) (mr_fl P (3 * i + 1)) (mr_fl P (3 * i + 2)) := by
    refine hP _ _ _ ?_
    rw [← mr_fl_at hi']
    exact List.getElem_mem hi'
  rcases hi with rfl | rfl | rfl
  · rw [mq_0, mq_1]; exact h0
  · rw [mq_1, mq_2]; exact hr _ _ _ h0
  · rw [mq_2, mq_0]; exact hr _ _ _ (hr _ _ _ h0)
theorem mr_fl_of {P : List (Nat × Nat × Nat)} {p q t : Nat} (h : mr_in P p q t) : md_T P.length (mr_fl P) p q t := by
  have key : ∀ a b c, (a, b, c) ∈ P → md_T P.length (mr_fl P) a b c := by
    intro a b c hm
    obtain ⟨i, hi, e⟩ := List.mem_iff_getElem.mp hm
    rw [mr_fl_at hi] at e
    simp only [Prod.mk.injEq] at e
    exact ⟨3 * i, by omega, e.1, by rw [mq_0]; exact e.2.1, by rw [mq_0, mq_1]; exact e.2.2⟩
  rcases h with h | h | h
  · exact key _ _ _ h
  · exact md_T_rot (md_T_rot (key _ _ _ h))
  · exact md_T_rot (key _ _ _ h)
theorem mr_fl_Ok {n V : Nat} {d : Nat → Nat} (hd : md_Ok n V d) {P : List (Nat × Nat × Nat)} (hP : ∀ p q t, (p, q, t) ∈ P → md_T n d p q t) (hw : P.Pairwise (fun a b => ¬ mr_in [a] b.1 b.2.1 b.2.2)) : md_Ok P.length V (mr_fl P) := by
  have hT : ∀ c, c < 3 * P.length → md_T n d (mr_fl P c) (mr_fl P (mq_nx c)) (mr_fl P (mq_nx (mq_nx c))) := fun c hc => mr_fl_T (fun _ _ _ z => md_T_rot z) hP hc
  refine ⟨fun c hc => (md_T_lt hd (hT c hc)).1, fun c hc => (md_T_ne hd (hT c hc)).1, ?_⟩
  intro c c' hc hc' e1 e2
  have h1 := hT c hc
  have h2 := hT c' hc'
  rw [e1, e2] at h1
  have e3 := md_T_fun hd h1 h2
  have r1 := mr_fl_in hc
  have r2 := mr_fl_in hc'
  rw [e1, e2, e3] at r1
  have key : ∀ i j, i < j → j < P.length → ∀ p q t, mr_in [P.getD i (0, 0, 0)] p q t → mr_in [P.getD j (0, 0, 0)] p q t → False := by
    intro i j hij hj p q t a b
    have z := List.pairwise_iff_getElem.mp hw i j (by omega) hj hij
    rw [mr_getD3 hj] at b
    rw [mr_getD3 (by omega : i < P.length)] at a
    apply z
    rcases b with b | b | b
    · rw [← List.mem_singleton.mp b]; exact a
    · rw [← List.mem_singleton.mp b]; exact mr_in_rot.mp a
    · rw [← List.mem_singleton.mp b]; exact mr_in_rot.mp (mr_in_rot.mp a)
  rcases Nat.lt_trichotomy (c / 3) (c' / 3) with hl | hl | hl
  · exact (key _ _ hl (by omega) _ _ _ r1 r2).elim
  · have ne := md_T_ne hd (hT (3 * (c / 3)) (by omega))
    rw [mq_0, mq_1] at ne
    obtain ⟨n1, n2, n3⟩ := ne
    obtain ⟨i, hi⟩ := mr_c3 c
    obtain ⟨i', hi'⟩ := mr_c3 c'
    have : c / 3 = i := by omega
    rw [this] at n1 n2 n3
    have : i = i' := by omega
    subst this
    rcases hi with rfl | rfl | rfl <;> rcases hi' with rfl | rfl | rfl
    · rfl
    · exact absurd e1 n1
    · exact absurd e1.symm n3
    · exact absurd e1.symm n1
    · rfl
    · exact absurd e1 n2
    · exact absurd e1 n3
    · exact absurd e1.symm n2
    · rfl
  · exact (key _ _ hl (by omega) _ _ _ r2 r1).elim
theorem mr_fl_map {ν : Nat → Nat} {P : List (Nat × Nat × Nat)} {c : Nat} (h : c < 3 * P.length) : mr_fl (P.map (mr_m3 ν)) c = ν (mr_fl P c) := by
  obtain ⟨i, hi⟩ := mr_c3 c
  have hi' : i < P.length := by omega
  have e : (P.map (mr_m3 ν)).getD i (0, 0, 0) = mr_m3 ν (P.getD i (0, 0, 0)) := by
    rw [mr_getD3 (by rw [List.length_map]; exact hi'), mr_getD3 hi', List.getElem_map]
  rcases hi with rfl | rfl | rfl
  · rw [mr_fl0, mr_fl0, e]; rfl
  · rw [mr_fl1, mr_fl1, e]; rfl
  · rw [mr_fl2, mr_fl2, e]; rfl
/-- the facts about a kept list of triangles T with m boundary sides and v numbers -/
def mt_Ok (m v : Nat) (T : List (Nat × Nat × Nat)) : Prop :=
  md_Ok T.length v (mr_fl T) ∧ (∀ x y, md_B T.length (mr_fl T) x y ↔ (x < m ∧ y = (x + 1) % m)) ∧ 3 ≤ m ∧ m ≤ v
/-- the whole record of a slot: its word and its triangles -/
def mt_Rec (m v : Nat) (T : List (Nat × Nat × Nat)) (ws : List Nat) : Prop :=
  mt_Ok m v T ∧ mr_nr T ws [List.range m] m [] v
theorem mt_fin {n V : Nat} {d : Nat → Nat} (hd : md_Ok n V d) {L : Nat} {y : Nat → Nat} (hL : 3 ≤ L) (hy : y L = y 0) (hyB : ∀ i, md_B n d (y i) (y (i + 1)))
    (hall : ∀ p q, md_B n d p q → ∃ i, i < L ∧ p = y i) (hone : md_One n d) {vs : List Nat} {P : List (Nat × Nat × Nat)} {ws : List Nat}
    (hI : mr_I n V d ((List.range L).map y) [] vs P ws) (hn : P.length = n) :
    mt_Rec L vs.length (P.map (mr_m3 (fun x => vs.idxOf x))) ws := by
  obtain ⟨_, i2, i3, ⟨ex, i4⟩, i5, i6, i7, i8, i9⟩ := hI
  have hν : ∀ i, i < vs.length → vs.idxOf (vs.getD i 0) = i := by
    intro i hi
    rw [List.getD_eq_getElem?_getD, List.getElem?_eq_getElem hi]
    exact List.Nodup.idxOf_getElem i2 i hi
  have hnu : ∀ x, x ∈ vs → vs.idxOf x < vs.length := fun x hx => List.idxOf_lt_length_of_mem hx
  have hinj : ∀ x x', x ∈ vs → x' ∈ vs → vs.idxOf x = vs.idxOf x' → x = x' := by
    intro x x' hx hx' e
    obtain ⟨i, hi, rfl⟩ := mr_mem_getD hx
    obtain ⟨j, hj, rfl⟩ := mr_mem_getD hx'
    rw [hν i hi, hν j hj] at e
    rw [e]
  have hLv : L ≤ vs.length := by rw [i4, List.length_append, List.length_map, List.length_range]; omega
  have hyi : ∀ i, i < L → vs.idxOf (y i) = i := by
    intro i hi
    have : vs.getD i 0 = y i := by
      rw [i4, List.getD_eq_getElem?_getD, List.getElem?_append_left (by rw [List.length_map, List.length_range]; exact hi)]
      simp [hi]
    rw [← this]
    exact hν i (by omega)
  have hyn : ∀ i, i < L → vs.idxOf (y (i + 1)) = (i + 1) % L := by
    intro i hi
    by_cases e : i + 1 = L
    · rw [e, hy, hyi 0 (by omega), Nat.mod_self]
    · rw [hyi (i + 1) (by omega), Nat.mod_eq_of_lt (by omega)]
  have hTl : (P.map (mr_m3 (fun x => vs.idxOf x))).length = n := by rw [List.length_map, hn]
  have hPv : ∀ c, c < 3 * n → mr_fl P c ∈ vs := by
    intro c hc
    have := mr_fl_T (Tp := fun p q t => p ∈ vs ∧ q ∈ vs ∧ t ∈ vs) (fun p q t z => ⟨z.2.1, z.2.2, z.1⟩) (P := P) (fun p q t hm => (i5 p q t hm).2) (c := c) (by omega)
    exact this.1
  have hfl : ∀ c, c < 3 * n → mr_fl (P.map (mr_m3 (fun x => vs.idxOf x))) c = vs.idxOf (mr_fl P c) := fun c hc => mr_fl_map (by omega)
  have okP := mr_fl_Ok hd (fun p q t hm => (i5 p q t hm).1) i6
  rw [hn] at okP
  have hST : ∀ p q, md_S n d p q ↔ md_S n (mr_fl P) p q := by
    intro p q
    constructor
    · intro h
      obtain ⟨t, c, hc, rfl, rfl, rfl⟩ := md_T_S.mp h
      rw [hn] at i7
      have := (mb_cn_all _ n).mp i7 (c / 3) (by omega)
      have h2 := mr_fl_of ((mr_tri_at d c P).mpr this)
      rw [hn] at h2
      exact md_T_S.mpr ⟨_, h2⟩
    · rintro ⟨c, hc, rfl, rfl⟩
      exact md_T_S.mpr ⟨_, mr_fl_T (fun _ _ _ z => md_T_rot z) (fun p q t hm => (i5 p q t hm).1) (by omega)⟩
  have hSx : ∀ x z, md_S n (mr_fl (P.map (mr_m3 (fun x => vs.idxOf x)))) x z ↔ ∃ p q, md_S n d p q ∧ p ∈ vs ∧ q ∈ vs ∧ vs.idxOf p = x ∧ vs.idxOf q = z := by
    intro x z
    constructor
    · rintro ⟨c, hc, rfl, rfl⟩
      refine ⟨mr_fl P c, mr_fl P (mq_nx c), (hST _ _).mpr ⟨c, hc, rfl, rfl⟩, hPv c hc, hPv _ (mq_lt hc), (hfl c hc).symm, (hfl _ (mq_lt hc)).symm⟩
    · rintro ⟨p, q, hs, _, _, rfl, rfl⟩
      obtain ⟨c, hc, rfl, rfl⟩ := (hST _ _).mp hs
      exact ⟨c, hc, hfl c hc, hfl _ (mq_lt hc)⟩
  have hmem : ∀ p q, md_S n d p q → p ∈ vs ∧ q ∈ vs := by
    intro p q hs
    obtain ⟨c, hc, rfl, rfl⟩ := (hST _ _).mp hs
    exact ⟨hPv c hc, hPv _ (mq_lt hc)⟩
  refine ⟨⟨?_, ?_, hL, hLv⟩, ?_⟩
  · rw [hTl]
    refine ⟨fun c hc => by rw [hfl c hc]; exact hnu _ (hPv c hc), fun c hc e => ?_, fun c c' hc hc' e1 e2 => ?_⟩
    · rw [hfl c hc, hfl _ (mq_lt hc)] at e
      exact okP.2.1 c hc (hinj _ _ (hPv c hc) (hPv _ (mq_lt hc)) e)
    · rw [hfl c hc, hfl c' hc'] at e1
      rw [hfl _ (mq_lt hc), hfl _ (mq_lt hc')] at e2
      exact okP.2.2 c c' hc hc' (hinj _ _ (hPv c hc) (hPv c' hc') e1) (hinj _ _ (hPv _ (mq_lt hc)) (hPv _ (mq_lt hc')) e2)
  · intro x z
    rw [hTl]
    constructor
    · rintro ⟨h1, h2⟩
      obtain ⟨p, q, hs, hp, hq, rfl, rfl⟩ := (hSx x z).mp h1
      have hb : md_B n d p q := ⟨hs, fun hs' => h2 ((hSx _ _).mpr ⟨q, p, hs', hq, hp, rfl, rfl⟩)⟩
      obtain ⟨i, hi, rfl⟩ := hall p q hb
      have := hone _ _ _ hb (hyB i)
      subst this
      rw [hyi i hi, hyn i hi]
      exact ⟨hi, rfl⟩
    · rintro ⟨hx, rfl⟩
      have hb := hyB x
      obtain ⟨m1, m2⟩ := hmem _ _ hb.1
      refine ⟨(hSx _ _).mpr ⟨y x, y (x + 1), hb.1, m1, m2, hyi x hx, hyn x hx⟩, fun hs' => ?_⟩
      obtain ⟨q', p', hs, hq, hp, e1, e2⟩ := (hSx _ _).mp hs'
      rw [← hyn x hx] at e1
      have := hinj _ _ hq m2 e1
      subst this
      have e3 := hinj _ _ hp m1 (e2.trans (hyi x hx).symm)
      subst e3
      exact hb.2 hs
  · have := i9 (fun x => vs.idxOf x) hν
    have e1 : ((List.range L).map y).map (fun x => vs.idxOf x) = List.range L := by
      rw [List.map_map]
      refine List.ext_getElem (by simp) (fun i h1 h2 => ?_)
      simp only [List.getElem_map, List.getElem_range, Function.comp]
      exact hyi i (by simpa using h2)
    rw [e1, List.length_map, List.length_range] at this
    exact this
theorem mr_iv_range {m : Nat} (h : 3 ≤ m) : mr_iv (· < m) [List.range m] := by
  intro l hl
  rw [List.mem_singleton.mp hl]
  exact ⟨List.nodup_range, by rw [List.length_range]; exact h, fun x hx => List.mem_range.mp hx⟩
theorem mt_m_aux {m m' v v' : Nat} {T : List (Nat × Nat × Nat)} (h : mt_Ok m v T) (h' : mt_Ok m' v' T) : ¬ m < m' := by
  intro hl
  have b := (h.2.1 (m - 1) 0).mpr ⟨by have := h.2.2.1; omega, by rw [show m - 1 + 1 = m by have := h.2.2.1; omega, Nat.mod_self]⟩
  have := (h'.2.1 (m - 1) 0).mp b
  have e := this.2
  rw [show m - 1 + 1 = m by have := h.2.2.1; omega, Nat.mod_eq_of_lt hl] at e
  have := h.2.2.1
  omega
/-- the same word: the same triangles, and the same triangles: the same word -/
theorem mt_same {m m' v v' : Nat} {T T' : List (Nat × Nat × Nat)} {ws ws' : List Nat} (h : mt_Rec m v T ws) (h' : mt_Rec m' v' T' ws') : ws = ws' ↔ T = T' := by
  constructor
  · rintro rfl
    have e1 := mr_nr_lens h.2
    have e2 := mr_nr_lens h'.2
    rw [← e2] at e1
    simp only [List.map_cons, List.map_nil, List.length_range, List.cons.injEq, and_true] at e1
    subst e1
    exact mr_uT h.2 h'.2
  · rintro rfl
    have e1 := mt_m_aux h.1 h'.1
    have e2 := mt_m_aux h'.1 h.1
    have : m = m' := by omega
    subst this
    exact mr_uW (mr_iv_range h.1.2.2.1) h.2 h'.2
end
section
/-! linked loops: node loops as lists, closed chains of next and prev -/
def xn_lk (nx pv : Nat → Int32) (x y : Nat) : Prop := nx x = nI y ∧ pv y = nI x
def xn_ch (nx pv : Nat → Int32) : Nat → List Nat → Prop
  | _, [] => True
  | x, y :: l => xn_lk nx pv x y ∧ xn_ch nx pv y l
theorem xn_ch_app {nx pv : Nat → Int32} {l1 : List Nat} : ∀ {x y : Nat} {l2 : List Nat}, xn_ch nx pv x (l1 ++ y :: l2) ↔ (xn_ch nx pv x (l1 ++ [y]) ∧ xn_ch nx pv y l2) := by
  induction l1 with
  | nil =>
    intro x y l2
    exact ⟨fun h => ⟨⟨h.1, trivial⟩, h.2⟩, fun h => ⟨h.1.1, h.2⟩⟩
  | cons z l1 ih =>
    intro x y l2
    exact ⟨fun h => ⟨⟨h.1, (ih.mp h.2).1⟩, (ih.mp h.2).2⟩, fun h => ⟨h.1.1, ih.mpr ⟨h.1.2, h.2⟩⟩⟩
theorem xn_ch_fr {nx pv nx' pv' : Nat → Int32} {l : List Nat} : ∀ {x y : Nat}, xn_ch nx pv x (l ++ [y]) → nx' x = nx x → (∀ z, z ∈ l → nx' z = nx z ∧ pv' z = pv z) → pv' y = pv y → xn_ch nx' pv' x (l ++ [y]) := by
  induction l with
  | nil =>
    intro x y h h1 _ h3
    exact ⟨⟨h1.trans h.1.1, h3.trans h.1.2⟩, trivial⟩
  | cons z l ih =>
    intro x y h h1 h2 h3
    have hz := h2 z (List.mem_cons_self)
    exact ⟨⟨h1.trans h.1.1, hz.2.trans h.1.2⟩, ih h.2 hz.1 (fun z' hz' => h2 z' (List.mem_cons_of_mem _ hz')) h3⟩
def xn_lp (nx pv : Nat → Int32) : List Nat → Prop
  | [] => False
  | g :: tl => xn_ch nx pv g (tl ++ [g])
theorem xn_lp_fr {nx pv nx' pv' : Nat → Int32} {l : List Nat} (h : xn_lp nx pv l) (hz : ∀ z, z ∈ l → nx' z = nx z ∧ pv' z = pv z) : xn_lp nx' pv' l := by
  cases l with
  | nil => exact h
  | cons g tl => exact xn_ch_fr h (hz g (List.mem_cons_self)).1 (fun z h' => hz z (List.mem_cons_of_mem _ h')) (hz g (List.mem_cons_self)).2
def xn_nd (nx pv : Nat → Int32) (nc : Nat) (NL : List (List Nat)) : Prop :=
  (∀ l, l ∈ NL → xn_lp nx pv l) ∧ NL.flatten.Nodup ∧ ∀ x, x ∈ NL.flatten → x < nc
def xn_sk (st : Nat → Int32) : List (List Nat) → Prop
  | [] => True
  | l :: r => st r.length = nI (l.headD 0) ∧ xn_sk st r
theorem xn_sk_fr {st st' : Nat → Int32} {r : List (List Nat)} (h : xn_sk st r) (hi : ∀ i, i < r.length → st' i = st i) : xn_sk st' r := by
  induction r with
  | nil => trivial
  | cons l r ih =>
    rw [List.length_cons] at hi
    exact ⟨(hi _ (by omega)).trans h.1, ih h.2 (fun i h' => hi i (by omega))⟩
def xn_st (w nc g a far : Nat) (NL NL' : List (List Nat)) (nc' : Nat) : Prop :=
  ∃ tl rest, NL = (g :: a :: tl) :: rest ∧
    ((w = 0 ∧ nc' = nc + 1 ∧ NL' = (nc :: a :: (tl ++ [g])) :: rest) ∨
     ∃ l1 l2, tl = l1 ++ far :: l2 ∧
       ((w = 7 ∧ l1 = [] ∧ l2 = [] ∧ nc' = nc ∧ NL' = rest) ∨
        (w = 4 ∧ l1 = [] ∧ l2 ≠ [] ∧ nc' = nc ∧ NL' = (g :: far :: l2) :: rest) ∨
        (w = 5 ∧ l1 ≠ [] ∧ l2 = [] ∧ nc' = nc ∧ NL' = (far :: a :: l1) :: rest) ∨
        (w = 6 ∧ l1 ≠ [] ∧ l2 ≠ [] ∧ nc' = nc + 1 ∧ NL' = (nc :: a :: l1) :: (g :: far :: l2) :: rest)))
theorem xn_map_fr {nm nm' : Nat → Nat} {l : List Nat} (h : ∀ x, x ∈ l → nm' x = nm x) : l.map nm' = l.map nm := List.map_congr_left h
theorem xn_map_fr2 {nm nm' : Nat → Nat} {r : List (List Nat)} (h : ∀ x, x ∈ r.flatten → nm' x = nm x) : r.map (List.map nm') = r.map (List.map nm) :=
  List.map_congr_left (fun _ hl => List.map_congr_left (fun x hx => h x (List.mem_flatten_of_mem hl hx)))
theorem xn_st_rs {w nc g a far nc' t : Nat} {NL NL' : List (List Nat)} {nm nm' : Nat → Nat} (h : xn_st w nc g a far NL NL' nc') (hlt : ∀ x, x ∈ NL.flatten → x < nc)
    (hm : ∀ x, x < nc → nm' x = nm x) (hn : w = 0 ∨ w = 6 → nm' nc = t) (hf : w ≠ 0 → nm far = t) :
    mr_rs w (nm g) (nm a) t (NL.map (List.map nm)) (NL'.map (List.map nm')) := by
  obtain ⟨tl, rest, rfl, h⟩ := h
  have hg : nm' g = nm g := hm g (hlt g (by simp))
  have ha : nm' a = nm a := hm a (hlt a (by simp))
  have htl : tl.map nm' = tl.map nm := xn_map_fr (fun x hx => hm x (hlt x (by simp [hx])))
  have hr : rest.map (List.map nm') = rest.map (List.map nm) := xn_map_fr2 (fun x hx => hm x (hlt x (by rw [List.flatten_cons]; exact List.mem_append_right _ hx)))
  refine ⟨tl.map nm, rest.map (List.map nm), by simp, ?_⟩
  rcases h with ⟨rfl, rfl, rfl⟩ | ⟨l1, l2, rfl, h⟩
  · refine Or.inl ⟨rfl, ?_⟩
    simp only [List.map_cons, List.map_append, List.map_nil, hr, htl, hg, ha, hn (Or.inl rfl)]
  · simp only [List.map_append, List.map_cons] at htl
    obtain ⟨h1, h2⟩ := List.append_inj htl (by simp)
    simp only [List.cons.injEq] at h2
    obtain ⟨h2, h3⟩ := h2
    refine Or.inr ⟨l1.map nm, l2.map nm, ?_, ?_⟩
    · rcases h with ⟨rfl, _⟩ | ⟨rfl, _⟩ | ⟨rfl, _⟩ | ⟨rfl, _⟩ <;> rw [List.map_append, List.map_cons, hf (by decide)]
    · rcases h with ⟨rfl, rfl, rfl, rfl, rfl⟩ | ⟨rfl, rfl, h4, rfl, rfl⟩ | ⟨rfl, h4, rfl, rfl, rfl⟩ | ⟨rfl, h4, h5, rfl, rfl⟩
      · exact Or.inl ⟨rfl, rfl, rfl, hr⟩
      · refine Or.inr (Or.inl ⟨rfl, rfl, by simpa using h4, ?_⟩)
        simp only [List.map_cons, hr, hg, h2, h3, hf (by decide)]
      · refine Or.inr (Or.inr (Or.inl ⟨rfl, by simpa using h4, rfl, ?_⟩))
        simp only [List.map_cons, hr, ha, h2, h1, hf (by decide)]
      · refine Or.inr (Or.inr (Or.inr ⟨rfl, by simpa using h4, by simpa using h5, ?_⟩))
        simp only [List.map_cons, hr, hg, ha, h1, h2, h3, hf (by decide), hn (Or.inr rfl)]
theorem xn_nd_of {l l' : List Nat} (h : l.Nodup) (e : ∀ x, l'.count x ≤ l.count x) : l'.Nodup := by
  rw [List.nodup_iff_count] at h ⊢
  exact fun x => Nat.le_trans (e x) (h x)
theorem xn_us {f : Nat → Int32} {k : Nat} {x : Int32} : upd f k x k = x := if_pos rfl
theorem xn_un {f : Nat → Int32} {k j : Nat} {x : Int32} (h : j ≠ k) : upd f k x j = f j := if_neg h
/-- facts of the top loop's nodes, ready for use -/
theorem xn_top {nx pv : Nat → Int32} {nc g a : Nat} {tl : List Nat} {rest : List (List Nat)} (h : xn_nd nx pv nc ((g :: a :: tl) :: rest)) :
    (g :: a :: tl).Nodup ∧ rest.flatten.Nodup ∧ (∀ x, x ∈ g :: a :: tl → x ∉ rest.flatten) ∧ (∀ x, x ∈ g :: a :: tl → x < nc) ∧ (∀ x, x ∈ rest.flatten → x < nc) ∧
    xn_lk nx pv g a ∧ xn_ch nx pv a (tl ++ [g]) ∧ (∀ l, l ∈ rest → xn_lp nx pv l) := by
  obtain ⟨h1, h2, h3⟩ := h
  rw [List.flatten_cons] at h2 h3
  obtain ⟨a1, a2, a3⟩ := List.nodup_append.mp h2
  have c := h1 _ (List.mem_cons_self)
  exact ⟨a1, a2, fun x hx hx' => a3 x hx x hx' rfl, fun x hx => h3 x (List.mem_append_left _ hx), fun x hx => h3 x (List.mem_append_right _ hx), c.1, c.2, fun l hl => h1 l (List.mem_cons_of_mem _ hl)⟩
theorem xn_nd_rest {nx pv nx' pv' : Nat → Int32} {rest : List (List Nat)} (h : ∀ l, l ∈ rest → xn_lp nx pv l) (hz : ∀ z, z ∈ rest.flatten → nx' z = nx z ∧ pv' z = pv z) : ∀ l, l ∈ rest → xn_lp nx' pv' l :=
  fun l hl => xn_lp_fr (h l hl) (fun z hz' => hz z (List.mem_flatten_of_mem hl hz'))
theorem xn_cons {nx pv : Nat → Int32} {l : List Nat} {r : List (List Nat)} (h : xn_lp nx pv l) (hr : ∀ l, l ∈ r → xn_lp nx pv l) : ∀ l', l' ∈ l :: r → xn_lp nx pv l' := by
  intro l' hl'
  rcases List.mem_cons.mp hl' with rfl | hl'
  · exact h
  · exact hr l' hl'
theorem xn_C {nx pv : Nat → Int32} {nc g a : Nat} {tl : List Nat} {rest : List (List Nat)} (h : xn_nd nx pv nc ((g :: a :: tl) :: rest)) :
    xn_nd (upd (upd nx g (nI nc)) nc (nI a)) (upd (upd pv nc (nI g)) a (nI nc)) (nc + 1) ((nc :: a :: (tl ++ [g])) :: rest) := by
  obtain ⟨t1, t2, t3, t4, t5, t6, t7, t8⟩ := xn_top h
  have n1 : nc ≠ g := by have := t4 g (by simp); omega
  have n2 : nc ≠ a := by have := t4 a (by simp); omega
  have t1' := t1
  simp only [List.nodup_cons, List.mem_cons, not_or] at t1'
  obtain ⟨⟨ga, gt⟩, at', nt⟩ := t1'
  refine ⟨xn_cons ?_ (xn_nd_rest t8 fun z hz => ?_), ?_, ?_⟩
  · show xn_ch _ _ nc ((a :: (tl ++ [g])) ++ [nc])
    rw [List.cons_append, List.append_assoc]
    refine ⟨⟨xn_us, xn_us⟩, ?_⟩
    rw [show tl ++ ([g] ++ [nc]) = tl ++ g :: [nc] from rfl, xn_ch_app]
    refine ⟨xn_ch_fr t7 ?_ ?_ ?_, ⟨?_, ?_⟩, trivial⟩
    · rw [xn_un n2.symm, xn_un (fun z => ga z.symm)]
    · intro z hz
      have z1 : z < nc := t4 z (by simp [hz])
      have z2 : z ≠ g := fun e => gt (e ▸ hz)
      have z3 : z ≠ a := fun e => at' (e ▸ hz)
      rw [xn_un (by omega), xn_un z2, xn_un z3, xn_un (by omega)]
      exact ⟨rfl, rfl⟩
    · rw [xn_un ga, xn_un n1.symm]
    · rw [xn_un n1.symm, xn_us]
    · rw [xn_un n2, xn_us]
  · have z1 := t5 z hz
    have z2 : z ≠ g := fun e => t3 g (by simp) (e ▸ hz)
    have z3 : z ≠ a := fun e => t3 a (by simp) (e ▸ hz)
    rw [xn_un (by omega), xn_un z2, xn_un z3, xn_un (by omega)]
    exact ⟨rfl, rfl⟩
  · have hn : nc ∉ ((g :: a :: tl) :: rest).flatten := fun z => by have := h.2.2 nc z; omega
    refine xn_nd_of (l := nc :: ((g :: a :: tl) :: rest).flatten) (List.nodup_cons.mpr ⟨hn, h.2.1⟩) (fun x => ?_)
    simp only [List.flatten_cons, List.cons_append, List.append_assoc, List.count_cons, List.count_append, List.count_nil]
    omega
  · intro x hx
    simp only [List.flatten_cons, List.cons_append, List.append_assoc, List.mem_cons, List.mem_append, List.not_mem_nil, or_false, false_or] at hx
    rcases hx with rfl | rfl | hx | rfl | hx
    · omega
    · have := t4 x (by simp); omega
    · have := t4 x (by simp [hx]); omega
    · have := t4 x (by simp); omega
    · have := t5 x hx; omega
theorem xn_R {nx pv : Nat → Int32} {nc g a far : Nat} {l2 : List Nat} {rest : List (List Nat)} (h : xn_nd nx pv nc ((g :: a :: far :: l2) :: rest)) :
    xn_nd (upd nx g (nI far)) (upd pv far (nI g)) nc ((g :: far :: l2) :: rest) := by
  obtain ⟨t1, t2, t3, t4, t5, t6, t7, t8⟩ := xn_top h
  have t1' := t1
  simp only [List.nodup_cons, List.mem_cons, not_or] at t1'
  obtain ⟨⟨ga, gf, gt⟩, ⟨af, at'⟩, ft, nt⟩ := t1'
  refine ⟨xn_cons ?_ (xn_nd_rest t8 fun z hz => ?_), ?_, ?_⟩
  · refine ⟨⟨xn_us, xn_us⟩, ?_⟩
    refine xn_ch_fr t7.2 (xn_un (fun e => gf e.symm)) (fun z hz => ⟨xn_un (fun e => gt (e ▸ hz)), xn_un (fun e => ft (e ▸ hz))⟩) (xn_un gf)
  · exact ⟨xn_un (fun e => t3 g (by simp) (e ▸ hz)), xn_un (fun e => t3 far (by simp) (e ▸ hz))⟩
  · refine xn_nd_of h.2.1 (fun x => ?_)
    simp only [List.flatten_cons, List.cons_append, List.append_assoc, List.count_cons, List.count_append, List.count_nil]
    omega
  · intro x hx
    refine h.2.2 x ?_
    simp only [List.flatten_cons, List.cons_append, List.append_assoc, List.mem_cons, List.mem_append] at hx ⊢
    rcases hx with hx | hx | hx | hx
    · exact Or.inl hx
    · exact Or.inr (Or.inr (Or.inl hx))
    · exact Or.inr (Or.inr (Or.inr (Or.inl hx)))
    · exact Or.inr (Or.inr (Or.inr (Or.inr hx)))
theorem xn_L {nx pv : Nat → Int32} {nc g a far : Nat} {l1 : List Nat} {rest : List (List Nat)} (h : xn_nd nx pv nc ((g :: a :: (l1 ++ [far])) :: rest)) :
    xn_nd (upd nx far (nI a)) (upd pv a (nI far)) nc ((far :: a :: l1) :: rest) := by
  obtain ⟨t1, t2, t3, t4, t5, t6, t7, t8⟩ := xn_top h
  have t1' := mr_nd_t (l2 := []) t1
  obtain ⟨n1, n2, n3, n4, n5, n6, n7, n8, n9, n10, n11, n12⟩ := t1'
  refine ⟨xn_cons ?_ (xn_nd_rest t8 fun z hz => ?_), ?_, ?_⟩
  · refine ⟨⟨xn_us, xn_us⟩, ?_⟩
    rw [List.append_assoc] at t7
    have t7' := (xn_ch_app (l2 := [g])).mp t7
    refine xn_ch_fr t7'.1 (xn_un (fun e => n4 e.symm)) (fun z hz => ⟨xn_un (fun e => n1 (e ▸ hz)), xn_un (fun e => n8 (e ▸ hz))⟩) (xn_un n4)
  · exact ⟨xn_un (fun e => t3 far (by simp) (e ▸ hz)), xn_un (fun e => t3 a (by simp) (e ▸ hz))⟩
  · refine xn_nd_of h.2.1 (fun x => ?_)
    simp only [List.flatten_cons, List.cons_append, List.append_assoc, List.count_cons, List.count_append, List.count_nil]
    omega
  · intro x hx
    refine h.2.2 x ?_
    simp only [List.flatten_cons, List.cons_append, List.append_assoc, List.mem_cons, List.mem_append, List.not_mem_nil, or_false, false_or] at hx ⊢
    rcases hx with hx | hx | hx | hx
    · exact Or.inr (Or.inr (Or.inr (Or.inl hx)))
    · exact Or.inr (Or.inl hx)
    · exact Or.inr (Or.inr (Or.inl hx))
    · exact Or.inr (Or.inr (Or.inr (Or.inr hx)))
theorem xn_S {nx pv : Nat → Int32} {nc g a far last : Nat} {l1 l2 : List Nat} {rest : List (List Nat)} (h : xn_nd nx pv nc ((g :: a :: (l1 ++ far :: l2)) :: rest)) (hl : ∃ l0, a :: l1 = l0 ++ [last]) :
    xn_nd (upd (upd (upd nx g (nI far)) last (nI nc)) nc (nI a)) (upd (upd (upd pv far (nI g)) nc (nI last)) a (nI nc)) (nc + 1) ((nc :: a :: l1) :: (g :: far :: l2) :: rest) := by
  obtain ⟨t1, t2, t3, t4, t5, t6, t7, t8⟩ := xn_top h
  obtain ⟨n1, n2, n3, n4, n5, n6, n7, n8, n9, n10, n11, n12⟩ := mr_nd_t t1
  obtain ⟨l0, hl0⟩ := hl
  have hlm : last ∈ a :: l1 := by rw [hl0]; simp
  have c1 : nc ≠ g := by have := t4 g (by simp); omega
  have c2 : nc ≠ a := by have := t4 a (by simp); omega
  have c3 : nc ≠ far := by have := t4 far (by simp); omega
  have c4 : nc ≠ last := by
    have : last ∈ g :: a :: (l1 ++ far :: l2) := by
      rcases List.mem_cons.mp hlm with e | e
      · simp [e]
      · simp [e]
    have := t4 last this
    omega
  have lg : last ≠ g := by
    rintro rfl
    rcases List.mem_cons.mp hlm with e | e
    · exact n5 e
    · exact n6 e
  have lf : last ≠ far := by
    rintro rfl
    rcases List.mem_cons.mp hlm with e | e
    · exact n4 e
    · exact n1 e
  have l2l : ∀ z, z ∈ l2 → z ≠ last := by
    rintro z hz rfl
    rcases List.mem_cons.mp hlm with e | e
    · exact n9 (e ▸ hz)
    · exact n12 _ e hz
  have t7' := t7
  rw [List.append_assoc, List.cons_append] at t7'
  obtain ⟨u1, u2⟩ := xn_ch_app.mp t7'
  refine ⟨xn_cons ?_ (xn_cons ?_ (xn_nd_rest t8 fun z hz => ?_)), ?_, ?_⟩
  · show xn_ch _ _ nc ((a :: l1) ++ [nc])
    have key : xn_ch (upd (upd (upd nx g (nI far)) last (nI nc)) nc (nI a)) (upd (upd (upd pv far (nI g)) nc (nI last)) a (nI nc)) a (l1 ++ [nc]) := by
      cases l1 with
      | nil =>
        have : last = a := by
          cases l0 with
          | nil => simp at hl0; exact hl0.symm
          | cons x l0 => simp at hl0
        subst this
        refine ⟨⟨?_, ?_⟩, trivial⟩
        · rw [xn_un c4.symm, xn_us]
        · rw [xn_un c4, xn_us]
      | cons y l1 =>
        obtain ⟨l3, hl3⟩ : ∃ l3, y :: l1 = l3 ++ [last] := by
          cases l0 with
          | nil => simp at hl0
          | cons x l0 => simp at hl0; exact ⟨l0, hl0.2⟩
        rw [hl3] at u1 n1 n6 n8 n10 n12 ⊢
        rw [List.append_assoc, List.cons_append, xn_ch_app] at u1
        rw [List.append_assoc, List.cons_append, xn_ch_app]
        have al : a ≠ last := fun e => n8 (by rw [e]; simp)
        have ll : last ∉ l3 := by
          have := List.nodup_append.mp n10
          exact fun z => this.2.2 last z last (by simp) rfl
        refine ⟨xn_ch_fr u1.1 ?_ (fun z hz => ?_) ?_, ⟨?_, ?_⟩, trivial⟩
        · rw [xn_un c2.symm, xn_un al, xn_un (fun e => n5 e.symm)]
        · have z0 : z < nc := t4 z (by rw [hl3]; simp [hz])
          have z1 : z ≠ last := fun e => ll (e ▸ hz)
          have z2 : z ≠ g := fun e => n6 (by rw [← e]; simp [hz])
          have z3 : z ≠ far := fun e => n1 (by rw [← e]; simp [hz])
          have z4 : z ≠ a := fun e => n8 (by rw [← e]; simp [hz])
          rw [xn_un (by omega), xn_un z1, xn_un z2, xn_un z4, xn_un (by omega), xn_un z3]
          exact ⟨rfl, rfl⟩
        · rw [xn_un al.symm, xn_un c4.symm, xn_un lf]
        · rw [xn_un c4.symm, xn_us]
        · rw [xn_un c2, xn_us]
    refine ⟨⟨xn_us, xn_us⟩, key⟩
  · refine ⟨⟨?_, ?_⟩, ?_⟩
    · rw [xn_un c1.symm, xn_un lg.symm, xn_us]
    · rw [xn_un n4, xn_un c3.symm, xn_us]
    · refine xn_ch_fr u2 ?_ (fun z hz => ?_) ?_
      · rw [xn_un c3.symm, xn_un lf.symm, xn_un n3]
      · have z0 : z < nc := t4 z (by simp [hz])
        have z2 : z ≠ g := fun e => n7 (e ▸ hz)
        have z3 : z ≠ far := fun e => n2 (e ▸ hz)
        have z4 : z ≠ a := fun e => n9 (e ▸ hz)
        rw [xn_un (by omega), xn_un (l2l z hz), xn_un z2, xn_un z4, xn_un (by omega), xn_un z3]
        exact ⟨rfl, rfl⟩
      · rw [xn_un n5, xn_un c1.symm, xn_un (fun e => n3 e.symm)]
  · have z0 := t5 z hz
    have z1 : z ≠ last := by
      rintro rfl
      refine t3 _ ?_ hz
      rcases List.mem_cons.mp hlm with e | e
      · simp [e]
      · simp [e]
    have z2 : z ≠ g := fun e => t3 g (by simp) (e ▸ hz)
    have z3 : z ≠ far := fun e => t3 far (by simp) (e ▸ hz)
    have z4 : z ≠ a := fun e => t3 a (by simp) (e ▸ hz)
    rw [xn_un (by omega), xn_un z1, xn_un z2, xn_un z4, xn_un (by omega), xn_un z3]
    exact ⟨rfl, rfl⟩
  · have hn : nc ∉ ((g :: a :: (l1 ++ far :: l2)) :: rest).flatten := fun z => by have := h.2.2 nc z; omega
    refine xn_nd_of (l := nc :: ((g :: a :: (l1 ++ far :: l2)) :: rest).flatten) (List.nodup_cons.mpr ⟨hn, h.2.1⟩) (fun x => ?_)
    simp only [List.flatten_cons, List.cons_append, List.append_assoc, List.count_cons, List.count_append, List.count_nil]
    omega
  · intro x hx
    simp only [List.flatten_cons, List.cons_append, List.append_assoc, List.mem_cons, List.mem_append, List.not_mem_nil, or_false, false_or] at hx
    rcases hx with rfl | rfl | hx | rfl | rfl | hx | hx
    · omega
    · have := t4 x (by simp); omega
    · have := t4 x (by simp [hx]); omega
    · have := t4 x (by simp); omega
    · have := t4 x (by simp); omega
    · have := t4 x (by simp [hx]); omega
    · have := t5 x hx; omega
end
section
/-! the table of sides: what setting and clearing a triangle's sides does; drafts that lose a triangle -/
def xs_tab (tab : Nat → Int32) (d : Nat → Nat) (i : Nat) (f : Nat → Int32) : Nat → Int32 :=
  upd (upd (upd tab (32 * d (3 * i + 0) + d (mq_nx (3 * i + 0))) (f (3 * i + 0))) (32 * d (3 * i + 1) + d (mq_nx (3 * i + 1))) (f (3 * i + 1))) (32 * d (3 * i + 2) + d (mq_nx (3 * i + 2))) (f (3 * i + 2))
def xd_TP (A : Nat → Prop) (V : Nat) (d : Nat → Nat) (tab : Nat → Int32) : Prop := ∀ p q, p < V → q < V →
  ((∃ c, A (c / 3) ∧ d c = p ∧ d (mq_nx c) = q ∧ tab (32 * p + q) = nI (c + 1)) ∨ ((∀ c, A (c / 3) → ¬ (d c = p ∧ d (mq_nx c) = q)) ∧ tab (32 * p + q) = 0))
theorem xs_tab_at {tab : Nat → Int32} {d : Nat → Nat} {i : Nat} {f : Nat → Int32} {p q : Nat} (hq : q < 32) (hl : ∀ c, c / 3 = i → d c < 32) :
    (∃ c, c / 3 = i ∧ d c = p ∧ d (mq_nx c) = q ∧ xs_tab tab d i f (32 * p + q) = f c) ∨ ((∀ c, c / 3 = i → ¬ (d c = p ∧ d (mq_nx c) = q)) ∧ xs_tab tab d i f (32 * p + q) = tab (32 * p + q)) := by
  have l0 := hl (mq_nx (3 * i + 0)) (by rw [mq_div]; omega)
  have l1 := hl (mq_nx (3 * i + 1)) (by rw [mq_div]; omega)
  have l2 := hl (mq_nx (3 * i + 2)) (by rw [mq_div]; omega)
  by_cases h2 : 32 * p + q = 32 * d (3 * i + 2) + d (mq_nx (3 * i + 2))
  · exact Or.inl ⟨3 * i + 2, by omega, by omega, by omega, if_pos h2⟩
  · by_cases h1 : 32 * p + q = 32 * d (3 * i + 1) + d (mq_nx (3 * i + 1))
    · exact Or.inl ⟨3 * i + 1, by omega, by omega, by omega, (if_neg h2).trans (if_pos h1)⟩
    · by_cases h0 : 32 * p + q = 32 * d (3 * i + 0) + d (mq_nx (3 * i + 0))
      · exact Or.inl ⟨3 * i + 0, by omega, by omega, by omega, (if_neg h2).trans ((if_neg h1).trans (if_pos h0))⟩
      · refine Or.inr ⟨?_, (if_neg h2).trans ((if_neg h1).trans (if_neg h0))⟩
        rintro c hc ⟨e1, e2⟩
        rcases (by omega : c = 3 * i + 0 ∨ c = 3 * i + 1 ∨ c = 3 * i + 2) with rfl | rfl | rfl
        · exact h0 (by rw [e1, e2])
        · exact h1 (by rw [e1, e2])
        · exact h2 (by rw [e1, e2])
theorem xd_clr {A A' : Nat → Prop} {n V i : Nat} {d : Nat → Nat} {tab : Nat → Int32} (hV : V ≤ 32) (hd : md_Ok n V d) (hA : ∀ f, A f → f < n) (hi : i < n) (hA' : ∀ f, A' f ↔ (A f ∧ f ≠ i)) (ht : xd_TP A V d tab) : xd_TP A' V d (xs_tab tab d i (fun _ => 0)) := by
  intro p q hp hq
  rcases xs_tab_at (tab := tab) (d := d) (i := i) (f := fun _ => 0) (p := p) (q := q) (by omega) (fun c hc => by have := hd.1 c (by omega); omega) with ⟨c, hc, e1, e2, e3⟩ | ⟨hn, e⟩
  · refine Or.inr ⟨?_, e3⟩
    rintro c' hc' ⟨f1, f2⟩
    obtain ⟨g1, g2⟩ := (hA' _).mp hc'
    have := hA _ g1
    have := hd.2.2 c c' (by omega) (by omega) (e1.trans f1.symm) (e2.trans f2.symm)
    subst this
    exact g2 hc
  · rw [e]
    rcases ht p q hp hq with ⟨c, hc, e1, e2, e3⟩ | ⟨hn', e'⟩
    · exact Or.inl ⟨c, (hA' _).mpr ⟨hc, fun z => hn c z ⟨e1, e2⟩⟩, e1, e2, e3⟩
    · exact Or.inr ⟨fun c hc => hn' c ((hA' _).mp hc).1, e'⟩
theorem xd_put {A A' : Nat → Prop} {V i : Nat} {d d' : Nat → Nat} {tab : Nat → Int32} (hV : V ≤ 32) (hl : ∀ c, c / 3 = i → d' c < V) (h1 : A' i) (h2 : ∀ f, A' f → f = i ∨ (A f ∧ f ≠ i)) (h3 : ¬ A i)
    (h4 : ∀ c, A' (c / 3) → c / 3 ≠ i → d' c = d c) (h5 : ∀ f, A f → A' f ∨ ∀ c, c / 3 = f → ∃ c', c' / 3 = i ∧ d' c' = d c ∧ d' (mq_nx c') = d (mq_nx c)) (ht : xd_TP A V d tab) : xd_TP A' V d' (xs_tab tab d' i (fun c => nI (c + 1))) := by
  intro p q hp hq
  rcases xs_tab_at (tab := tab) (d := d') (i := i) (f := fun c => nI (c + 1)) (p := p) (q := q) (by omega) (fun c hc => by have := hl c hc; omega) with ⟨c, hc, e1, e2, e3⟩ | ⟨hn, e⟩
  · exact Or.inl ⟨c, hc ▸ h1, e1, e2, e3⟩
  · rw [e]
    rcases ht p q hp hq with ⟨c, hc, e1, e2, e3⟩ | ⟨hn', e'⟩
    · have hci : c / 3 ≠ i := fun z => h3 (z ▸ hc)
      rcases h5 _ hc with h | h
      · exact Or.inl ⟨c, h, (h4 c h hci).trans e1, (h4 (mq_nx c) (by rw [mq_div]; exact h) (by rw [mq_div]; exact hci)).trans e2, e3⟩
      · obtain ⟨c', k1, k2, k3⟩ := h c rfl
        exact absurd ⟨k2.trans e1, k3.trans e2⟩ (hn c' k1)
    · refine Or.inr ⟨?_, e'⟩
      rintro c hc ⟨e1, e2⟩
      rcases h2 _ hc with h | ⟨h, hne⟩
      · exact hn c h ⟨e1, e2⟩
      · refine hn' c h ⟨(h4 c hc hne).symm.trans e1, (h4 (mq_nx c) (by rw [mq_div]; exact hc) (by rw [mq_div]; exact hne)).symm.trans e2⟩
/-- triangles picked out of a good draft make a good draft -/
theorem md_pick {n n' V : Nat} {d d' : Nat → Nat} (σ : Nat → Nat) (hd : md_Ok n V d) (hσ : ∀ j, j < n' → σ j < n) (hi : ∀ j j', j < n' → j' < n' → σ j = σ j' → j = j') (he : ∀ j k, j < n' → k < 3 → d' (3 * j + k) = d (3 * σ j + k)) : md_Ok n' V d' := by
  have key : ∀ c, c < 3 * n' → d' c = d (3 * σ (c / 3) + c % 3) ∧ d' (mq_nx c) = d (mq_nx (3 * σ (c / 3) + c % 3)) ∧ 3 * σ (c / 3) + c % 3 < 3 * n := by
    intro c hc
    have a := he (c / 3) (c % 3) (by omega) (by omega)
    have b := he (c / 3) ((c % 3 + 1) % 3) (by omega) (by omega)
    rw [md_dm] at a
    rw [← md_nxk, ← mq_at _ _ (by omega : c % 3 < 3)] at b
    have := hσ (c / 3) (by omega)
    exact ⟨a, b, by omega⟩
  refine ⟨fun c hc => ?_, fun c hc => ?_, fun c c' hc hc' e1 e2 => ?_⟩
  · obtain ⟨a, _, b⟩ := key c hc
    rw [a]
    exact hd.1 _ b
  · obtain ⟨a, a', b⟩ := key c hc
    rw [a, a']
    exact hd.2.1 _ b
  · obtain ⟨a, a', b⟩ := key c hc
    obtain ⟨f, f', g⟩ := key c' hc'
    rw [a, f] at e1
    rw [a', f'] at e2
    have e := hd.2.2 _ _ b g e1 e2
    have := hi (c / 3) (c' / 3) (by omega) (by omega) (by omega)
    omega
theorem md_same_tri {n V : Nat} {d : Nat → Nat} (hd : md_Ok n V d) {i j : Nat} (hi : i < n) (hj : j < n) (h : ∀ k, k < 3 → d (3 * i + k) = d (3 * j + k)) : i = j := by
  have := hd.2.2 (3 * i + 0) (3 * j + 0) (by omega) (by omega) (h 0 (by decide)) (by rw [mq_at i 0 (by decide), mq_at j 0 (by decide)]; exact h 1 (by decide))
  omega
/-- both drafts lose the same triangle -/
theorem md_Sm_pick {n V : Nat} {d e d' e' : Nat → Nat} {i f : Nat} (σ τ : Nat → Nat) (hd : md_Ok (n + 1) V d) (he : md_Ok (n + 1) V e) (hs : md_Sm (n + 1) d e) (hi : i < n + 1) (hf : f < n + 1) (hif : ∀ k, k < 3 → d (3 * i + k) = e (3 * f + k))
    (hσ : ∀ j, j < n → σ j < n + 1 ∧ σ j ≠ i) (hσ' : ∀ g, g < n + 1 → g ≠ i → ∃ j, j < n ∧ σ j = g) (hτ : ∀ j, j < n → τ j < n + 1 ∧ τ j ≠ f) (hτ' : ∀ g, g < n + 1 → g ≠ f → ∃ j, j < n ∧ τ j = g)
    (hd' : ∀ j k, j < n → k < 3 → d' (3 * j + k) = d (3 * σ j + k)) (he' : ∀ j k, j < n → k < 3 → e' (3 * j + k) = e (3 * τ j + k)) : md_Sm n d' e' := by
  constructor
  · intro j hj
    obtain ⟨a1, a2⟩ := hσ j hj
    obtain ⟨g, hg, hk⟩ := hs.1 (σ j) a1
    have gf : g ≠ f := by
      rintro rfl
      exact a2 (md_same_tri hd a1 hi (fun k h3 => (hk k h3).trans (hif k h3).symm))
    obtain ⟨j', hj', rfl⟩ := hτ' g hg gf
    exact ⟨j', hj', fun k h3 => by rw [hd' j k hj h3, he' j' k hj' h3]; exact hk k h3⟩
  · intro j hj
    obtain ⟨a1, a2⟩ := hτ j hj
    obtain ⟨g, hg, hk⟩ := hs.2 (τ j) a1
    have gi : g ≠ i := by
      rintro rfl
      exact a2 (md_same_tri he a1 hf (fun k h3 => (hk k h3).symm.trans (hif k h3)))
    obtain ⟨j', hj', rfl⟩ := hσ' g hg gi
    exact ⟨j', hj', fun k h3 => by rw [hd' j' k hj' h3, he' j k hj h3]; exact hk k h3⟩
/-- a new triangle whose sides are free -/
theorem md_add {n V : Nat} {d d' : Nat → Nat} (hd : md_Ok n V d) (h : ∀ c, c < 3 * n → d' c = d c) (h0 : d' (3 * n) < V) (h1 : d' (3 * n + 1) < V) (h2 : d' (3 * n + 2) < V)
    (n0 : d' (3 * n) ≠ d' (3 * n + 1)) (n1 : d' (3 * n + 1) ≠ d' (3 * n + 2)) (n2 : d' (3 * n + 2) ≠ d' (3 * n))
    (s0 : ¬ md_S n d (d' (3 * n)) (d' (3 * n + 1))) (s1 : ¬ md_S n d (d' (3 * n + 1)) (d' (3 * n + 2))) (s2 : ¬ md_S n d (d' (3 * n + 2)) (d' (3 * n))) : md_Ok (n + 1) V d' := by
  have lt3 : ∀ c, c < 3 * (n + 1) → c < 3 * n ∨ c = 3 * n ∨ c = 3 * n + 1 ∨ c = 3 * n + 2 := by omega
  have hs : ∀ c c', c < 3 * n → (c' = 3 * n ∨ c' = 3 * n + 1 ∨ c' = 3 * n + 2) → d' c = d' c' → d' (mq_nx c) = d' (mq_nx c') → False := by
    intro c c' hc hc' e1 e2
    rw [h c hc] at e1
    rw [h _ (mq_lt hc)] at e2
    rcases hc' with rfl | rfl | rfl
    · rw [mq_0] at e2; exact s0 ⟨c, hc, e1, e2⟩
    · rw [mq_1] at e2; exact s1 ⟨c, hc, e1, e2⟩
    · rw [mq_2] at e2; exact s2 ⟨c, hc, e1, e2⟩
  refine ⟨fun c hc => ?_, fun c hc => ?_, fun c c' hc hc' e1 e2 => ?_⟩
  · rcases lt3 c hc with hc | rfl | rfl | rfl
    · rw [h c hc]; exact hd.1 c hc
    · exact h0
    · exact h1
    · exact h2
  · rcases lt3 c hc with hc | rfl | rfl | rfl
    · rw [h c hc, h _ (mq_lt hc)]; exact hd.2.1 c hc
    · rw [mq_0]; exact n0
    · rw [mq_1]; exact n1
    · rw [mq_2]; exact n2
  · rcases lt3 c hc with hc | hc <;> rcases lt3 c' hc' with hc' | hc'
    · rw [h c hc, h c' hc'] at e1
      rw [h _ (mq_lt hc), h _ (mq_lt hc')] at e2
      exact hd.2.2 c c' hc hc' e1 e2
    · exact (hs c c' hc hc' e1 e2).elim
    · exact (hs c' c hc' hc e1.symm e2.symm).elim
    · rcases hc with rfl | rfl | rfl <;> rcases hc' with rfl | rfl | rfl
      · rfl
      · exact absurd e1 n0
      · exact absurd e1.symm n2
      · exact absurd e1.symm n0
      · rfl
      · exact absurd e1 n1
      · exact absurd e1 n2
      · exact absurd e1.symm n1
      · rfl
theorem md_Sm_add {n : Nat} {d d' e e' : Nat → Nat} (hs : md_Sm n d e) (h : ∀ c, c < 3 * n → d' c = d c) (h' : ∀ c, c < 3 * n → e' c = e c) (hn : ∀ k, k < 3 → d' (3 * n + k) = e' (3 * n + k)) : md_Sm (n + 1) d' e' := by
  constructor
  · intro i hi
    by_cases e : i = n
    · subst e; exact ⟨i, hi, hn⟩
    · obtain ⟨j, hj, hk⟩ := hs.1 i (by omega)
      exact ⟨j, by omega, fun k h3 => by rw [h _ (by omega), h' _ (by omega)]; exact hk k h3⟩
  · intro i hi
    by_cases e : i = n
    · subst e; exact ⟨i, hi, hn⟩
    · obtain ⟨j, hj, hk⟩ := hs.2 i (by omega)
      exact ⟨j, by omega, fun k h3 => by rw [h _ (by omega), h' _ (by omega)]; exact hk k h3⟩
end
section
/-! a peeling step has one outcome; the node side of a step -/
theorem mr_pe_det {n V : Nat} {d : Nat → Nat} (hd : md_Ok n V d) {s : List (List Nat)} {vs : List Nat} {P : List (Nat × Nat × Nat)} {ws : List Nat} {s1 s2 : List (List Nat)} {vs1 vs2 : List Nat} {P1 P2 : List (Nat × Nat × Nat)} {ws1 ws2 : List Nat}
    (hn : ∀ l, l ∈ s → l.Nodup) (h1 : mr_pe (md_T n d) s vs P ws s1 vs1 P1 ws1) (h2 : mr_pe (md_T n d) s vs P ws s2 vs2 P2 ws2) : s1 = s2 ∧ vs1 = vs2 ∧ P1 = P2 ∧ ws1 = ws2 := by
  obtain ⟨w, p, q, t, a1, a2, a3, a4, rfl, rfl⟩ := h1
  obtain ⟨w', p', q', t', b1, b2, b3, b4, rfl, rfl⟩ := h2
  have e : p = p' ∧ q = q' := by
    obtain ⟨tl, rest, e1, _⟩ := a1
    obtain ⟨tl', rest', e2, _⟩ := b1
    rw [e1] at e2
    simp only [List.cons.injEq] at e2
    exact ⟨e2.1.1, e2.1.2.1⟩
  obtain ⟨rfl, rfl⟩ := e
  have := md_T_fun hd a3 b3
  subst this
  have h0 : w = 0 ↔ w' = 0 := by
    rcases a2 with ⟨x, y, _⟩ | ⟨x, y, _⟩ <;> rcases b2 with ⟨x', y', _⟩ | ⟨x', y', _⟩
    · exact ⟨fun _ => x', fun _ => x⟩
    · exact absurd y' y
    · exact absurd y y'
    · exact ⟨fun z => absurd z x, fun z => absurd z x'⟩
  obtain ⟨rfl, rfl⟩ := mr_rs_det2 a1 b1 h0 hn
  refine ⟨rfl, ?_, rfl, rfl⟩
  rcases a2 with ⟨x, y, z⟩ | ⟨x, y, z⟩ <;> rcases b2 with ⟨x', y', z'⟩ | ⟨x', y', z'⟩
  · rw [z, z']
  · exact absurd y' y
  · exact absurd y y'
  · rw [z, z']
/-- as many triangles are taken as rows stand in P, so one that isn't taken leaves room -/
theorem mr_room {n V : Nat} {d : Nat → Nat} {bs : List Nat} {s : List (List Nat)} {vs : List Nat} {P : List (Nat × Nat × Nat)} {ws : List Nat} (hI : mr_I n V d bs s vs P ws) : P.length ≤ n ∧ vs.length ≤ V ∧ P.length = ws.length := by
  obtain ⟨_, i2, i3, _, _, _, i7, i8, _⟩ := hI
  exact ⟨by rw [← i7]; exact mb_cn_le _ _, mb_nodup_lt i2 i3, i8⟩
theorem mr_room_lt {n V : Nat} {d : Nat → Nat} {bs : List Nat} {s : List (List Nat)} {vs : List Nat} {P : List (Nat × Nat × Nat)} {ws : List Nat} {p q t : Nat} (hd : md_Ok n V d) (hI : mr_I n V d bs s vs P ws) (h : md_T n d p q t) (hn : ¬ mr_in P p q t) : P.length < n := by
  obtain ⟨_, _, _, _, _, _, i7, _, _⟩ := hI
  have := mr_cnt_put hd h hn
  have := mb_cn_le (fun f => mr_tri d f (P ++ [(p, q, t)])) n
  omega
theorem mr_I0 {n V : Nat} {d : Nat → Nat} (hd : md_Ok n V d) {L : Nat} {y : Nat → Nat} (hL : 3 ≤ L) (hyB : ∀ i, md_B n d (y i) (y (i + 1))) (hi : ∀ i j, i < L → j < L → y i = y j → i = j) :
    mr_I n V d ((List.range L).map y) [(List.range L).map y] ((List.range L).map y) [] [] := by
  have nd : ((List.range L).map y).Nodup := mb_nodup_map List.nodup_range (fun i j a b => hi i j (List.mem_range.mp a) (List.mem_range.mp b))
  refine ⟨?_, nd, ?_, ⟨[], (List.append_nil _).symm⟩, (fun p q t z => nomatch z), List.Pairwise.nil, ?_, rfl, ?_⟩
  · intro l hl
    rw [List.mem_singleton.mp hl]
    exact ⟨nd, by rw [List.length_map, List.length_range]; exact hL, fun x hx => hx⟩
  · intro x hx
    obtain ⟨i, _, rfl⟩ := List.mem_map.mp hx
    exact (md_S_lt hd (hyB i).1).1
  · refine Nat.eq_zero_of_not_pos (fun hp => ?_)
    obtain ⟨f, _, z⟩ := mb_cn_pos hp
    rcases z with z | z | z <;> exact nomatch z
  · intro ν _
    refine ⟨rfl, ?_⟩
    rfl
end
section
/-! small walks of the component: names, corners, sides -/
theorem ar_2 (i : Nat) : 2 * nI i = nI (2 * i) := pk_mul 2 i
theorem ar_3 (i : Nat) : 3 * nI i = nI (3 * i) := pk_mul 3 i
theorem ar_32 (i : Nat) : 32 * nI i = nI (32 * i) := pk_mul 32 i
theorem ar_40 (i : Nat) : 40 * nI i = nI (40 * i) := pk_mul 40 i
theorem ar_96 (i : Nat) : 96 * nI i = nI (96 * i) := pk_mul 96 i
theorem ar_a2 (i : Nat) : nI i + 2 = nI (i + 2) := nI_add i 2
theorem ar_a3 (i : Nat) : nI i + 3 = nI (i + 3) := nI_add i 3
theorem ar_s1 {i : Nat} (h : 1 ≤ i) : nI i - 1 = nI (i - 1) := pk_sub h
theorem ar_s2 {i : Nat} (h : 2 ≤ i) : nI i - 2 = nI (i - 2) := pk_sub h
theorem ar_m1 {i : Nat} (h : 1 ≤ i) : nI i + (-1) = nI (i - 1) := by
  obtain ⟨j, rfl⟩ : ∃ j, i = j + 1 := ⟨i - 1, by omega⟩
  rw [pk_m1]; rfl
theorem ar_d3 {c : Nat} (h : c < 2 ^ 31) : nI c / 3 = nI (c / 3) := pk_div h (by decide) (by decide)
theorem ar_r3 {c : Nat} (h : c < 2 ^ 31) : nI c - nI c / 3 * 3 = nI (c % 3) := pk_rem h (by decide) (by decide)
theorem ar_n1 : ¬ (1 : Int32) = 0 := by decide
theorem ar_n3 : ¬ (3 : Int32) = 0 := by decide
theorem ar_ng : ¬ (0 : Int32) ≤ -1 := by decide
theorem ar_lg : (-1 : Int32) < 0 := by decide
theorem ar_01 : (0 : Int32) - 1 = -1 := by decide
def mn_nm (V : Nat) (p : Int32) : Prop := ∃ x, x < V ∧ p = nI x
theorem mn_inj {x y : Nat} (hx : x < 32) (hy : y < 32) (h : nI x = nI y) : x = y := (nI_eq (by omega) (by omega)).mp h
def xd_Tab (n V : Nat) (d : Nat → Nat) (tab : Nat → Int32) : Prop := ∀ p q, p < V → q < V →
  ((∃ c, c < 3 * n ∧ d c = p ∧ d (mq_nx c) = q ∧ tab (32 * p + q) = nI (c + 1)) ∨ (¬ md_S n d p q ∧ tab (32 * p + q) = 0))
section
variable {f_letterC f_letterR f_letterL f_letterS f_letterE f_triangleLimit f_vertexLimit f_slotCount f_draftCount f_bench f_bitsUsed f_nodeCount f_loopDepth f_boundaryCount f_numbered f_taken f_nextNumber f_viewCount : Int32} {a_draftName a_sideTable a_letterCount a_nodeName a_nodeNext a_nodePrev a_nodeGlue a_loopStack a_boundaryNext a_letters a_offsets a_lengths a_viewName a_viewOpposite : Nat → Int32} {a_packed : Nat → Int64}
theorem xa_isName {post : Int32 → Prop} {V : Nat} (p0 : Int32) (hV : f_vertexLimit = nI V) (hV2 : V ≤ 32) (h1 : mn_nm V p0 → post 1) (h0 : ¬ mn_nm V p0 → post 0) : wpX_isName post (f_letterC, f_letterR, f_letterL, f_letterS, f_letterE, f_triangleLimit, f_vertexLimit, f_slotCount, f_draftCount, f_bench, f_bitsUsed, f_nodeCount, f_loopDepth, f_boundaryCount, f_numbered, f_taken, f_nextNumber, f_viewCount, a_draftName, a_sideTable, a_packed, a_letterCount, a_nodeName, a_nodeNext, a_nodePrev, a_nodeGlue, a_loopStack, a_boundaryNext, a_letters, a_offsets, a_lengths, a_viewName, a_viewOpposite) p0 := by
  unfold wpX_isName
  dsimp only
  subst hV
  by_cases a : p0 < 0
  · refine br_t a (h0 ?_)
    rintro ⟨x, hx, rfl⟩
    exact nI_pos (by omega) a
  · refine br_f a ?_
    obtain ⟨j, hj, rfl⟩ := nI_of a
    refine pk_le V j (fun h => h0 ?_) (fun h => h1 ⟨j, h, rfl⟩)
    rintro ⟨x, hx, e⟩
    rw [nI_eq hj (by omega)] at e
    omega
theorem xa_isSlot {post : Int32 → Prop} {V : Nat} (p0 : Int32) (hV : f_slotCount = nI V) (hV2 : V ≤ 4) (h1 : mn_nm V p0 → post 1) (h0 : ¬ mn_nm V p0 → post 0) : wpX_isSlot post (f_letterC, f_letterR, f_letterL, f_letterS, f_letterE, f_triangleLimit, f_vertexLimit, f_slotCount, f_draftCount, f_bench, f_bitsUsed, f_nodeCount, f_loopDepth, f_boundaryCount, f_numbered, f_taken, f_nextNumber, f_viewCount, a_draftName, a_sideTable, a_packed, a_letterCount, a_nodeName, a_nodeNext, a_nodePrev, a_nodeGlue, a_loopStack, a_boundaryNext, a_letters, a_offsets, a_lengths, a_viewName, a_viewOpposite) p0 := by
  unfold wpX_isSlot
  dsimp only
  subst hV
  by_cases a : p0 < 0
  · refine br_t a (h0 ?_)
    rintro ⟨x, hx, rfl⟩
    exact nI_pos (by omega) a
  · refine br_f a ?_
    obtain ⟨j, hj, rfl⟩ := nI_of a
    refine pk_le V j (fun h => h0 ?_) (fun h => h1 ⟨j, h, rfl⟩)
    rintro ⟨x, hx, e⟩
    rw [nI_eq hj (by omega)] at e
    omega
theorem xa_next {post : Int32 → Prop} {c : Nat} (hc : c < 96) (h : post (nI (mq_nx c))) : wpX_nextCorner post (f_letterC, f_letterR, f_letterL, f_letterS, f_letterE, f_triangleLimit, f_vertexLimit, f_slotCount, f_draftCount, f_bench, f_bitsUsed, f_nodeCount, f_loopDepth, f_boundaryCount, f_numbered, f_taken, f_nextNumber, f_viewCount, a_draftName, a_sideTable, a_packed, a_letterCount, a_nodeName, a_nodeNext, a_nodePrev, a_nodeGlue, a_loopStack, a_boundaryNext, a_letters, a_offsets, a_lengths, a_viewName, a_viewOpposite) (nI c) := by
  unfold wpX_nextCorner
  dsimp only
  rw [ar_r3 (by omega)]
  refine ⟨ar_n3, pk_eq (c % 3) 2 (fun e => ?_) (fun e => ?_)⟩
  · rw [mq_nx_a e] at h
    rw [ar_s2 (by omega)]
    exact h
  · rw [mq_nx_b e] at h
    rw [nI_1]
    exact h
theorem xa_tip {post : Int32 → Prop} {c : Nat} (hc : c < 96) (h : post (nI (mq_nx (mq_nx c)))) : wpX_tipCorner post (f_letterC, f_letterR, f_letterL, f_letterS, f_letterE, f_triangleLimit, f_vertexLimit, f_slotCount, f_draftCount, f_bench, f_bitsUsed, f_nodeCount, f_loopDepth, f_boundaryCount, f_numbered, f_taken, f_nextNumber, f_viewCount, a_draftName, a_sideTable, a_packed, a_letterCount, a_nodeName, a_nodeNext, a_nodePrev, a_nodeGlue, a_loopStack, a_boundaryNext, a_letters, a_offsets, a_lengths, a_viewName, a_viewOpposite) (nI c) := by
  unfold wpX_tipCorner
  dsimp only
  rw [ar_r3 (by omega)]
  rw [mq_tip] at h
  refine ⟨ar_n3, pk_eq (c % 3) 0 (fun e => ?_) (fun e => ?_)⟩
  · rw [if_pos e] at h
    rw [ar_a2]
    exact h
  · rw [if_neg e] at h
    rw [ar_s1 (by omega)]
    exact h
theorem xa_side {post : Int32 → Prop} {n V : Nat} {d : Nat → Nat} (hV : f_vertexLimit = nI V) (hV2 : V ≤ 32) (hn : n ≤ 32) (ht : xd_Tab n V d a_sideTable) (p0 p1 : Int32)
    (h1 : ∀ c, c < 3 * n → p0 = nI (d c) → p1 = nI (d (mq_nx c)) → post (nI c)) (h0 : (∀ p q, p < V → q < V → p0 = nI p → p1 = nI q → ¬ md_S n d p q) → post (-1)) : wpX_sideCorner post (f_letterC, f_letterR, f_letterL, f_letterS, f_letterE, f_triangleLimit, f_vertexLimit, f_slotCount, f_draftCount, f_bench, f_bitsUsed, f_nodeCount, f_loopDepth, f_boundaryCount, f_numbered, f_taken, f_nextNumber, f_viewCount, a_draftName, a_sideTable, a_packed, a_letterCount, a_nodeName, a_nodeNext, a_nodePrev, a_nodeGlue, a_loopStack, a_boundaryNext, a_letters, a_offsets, a_lengths, a_viewName, a_viewOpposite) p0 p1 := by
  unfold wpX_sideCorner
  dsimp only
  refine xa_isName p0 hV hV2 (fun a => ?_) (fun a => ?_)
  · refine br_f ar_n1 ?_
    refine xa_isName p1 hV hV2 (fun b => ?_) (fun b => ?_)
    · refine br_f ar_n1 ?_
      obtain ⟨p, hp, rfl⟩ := a
      obtain ⟨q, hq, rfl⟩ := b
      rw [ar_32 p, nI_add]
      refine ⟨vp_in_nI (by omega) (by decide), ?_⟩
      rw [nI_clamp (by omega)]
      rcases ht p q hp hq with ⟨c, hc, e1, e2, e3⟩ | ⟨hs, e⟩
      · rw [e3, nI_pred]
        exact h1 c hc (by rw [e1]) (by rw [e2])
      · rw [e, ar_01]
        refine h0 (fun p' q' hp' hq' e1 e2 => ?_)
        rw [← mn_inj (by omega) (by omega) e1, ← mn_inj (by omega) (by omega) e2]
        exact hs
    · exact br_t rfl (h0 (fun p' q' hp' hq' e1 e2 => absurd ⟨q', hq', e2⟩ b))
  · exact br_t rfl (h0 (fun p' q' hp' hq' e1 e2 => absurd ⟨p', hp', e1⟩ a))
/-- the corner of a side that is there, and none of one that isn't -/
theorem xa_side_at {post : Int32 → Prop} {n V : Nat} {d : Nat → Nat} (hV : f_vertexLimit = nI V) (hV2 : V ≤ 32) (hn : n ≤ 32) (hd : md_Ok n V d) (ht : xd_Tab n V d a_sideTable) {p q : Nat} (hp : p < 32) (hq : q < 32)
    (h1 : ∀ c, c < 3 * n → d c = p → d (mq_nx c) = q → post (nI c)) (h0 : ¬ md_S n d p q → post (-1)) : wpX_sideCorner post (f_letterC, f_letterR, f_letterL, f_letterS, f_letterE, f_triangleLimit, f_vertexLimit, f_slotCount, f_draftCount, f_bench, f_bitsUsed, f_nodeCount, f_loopDepth, f_boundaryCount, f_numbered, f_taken, f_nextNumber, f_viewCount, a_draftName, a_sideTable, a_packed, a_letterCount, a_nodeName, a_nodeNext, a_nodePrev, a_nodeGlue, a_loopStack, a_boundaryNext, a_letters, a_offsets, a_lengths, a_viewName, a_viewOpposite) (nI p) (nI q) := by
  refine xa_side hV hV2 hn ht _ _ (fun c hc e1 e2 => ?_) (fun h => ?_)
  · have a := hd.1 c hc
    have b := hd.1 _ (mq_lt hc)
    exact h1 c hc (mn_inj (by omega) hp e1.symm) (mn_inj (by omega) hq e2.symm)
  · refine h0 (fun hs => ?_)
    have := md_S_lt hd hs
    exact h p q this.1 this.2 rfl rfl hs
end
end
section
/-! walks of the component over the draft: setSides, place, clearDraft, removeTriangle, apex -/
theorem xd_TP_iff {n V : Nat} {d : Nat → Nat} {tab : Nat → Int32} : xd_TP (fun f => f < n) V d tab ↔ xd_Tab n V d tab := by
  constructor
  · intro h p q hp hq
    rcases h p q hp hq with ⟨c, hc, e⟩ | ⟨hn, e⟩
    · exact Or.inl ⟨c, by omega, e⟩
    · refine Or.inr ⟨?_, e⟩
      rintro ⟨c, hc, e1, e2⟩
      exact hn c (by dsimp only; omega) ⟨e1, e2⟩
  · intro h p q hp hq
    rcases h p q hp hq with ⟨c, hc, e⟩ | ⟨hn, e⟩
    · exact Or.inl ⟨c, by dsimp only; omega, e⟩
    · refine Or.inr ⟨?_, e⟩
      rintro c hc ⟨e1, e2⟩
      exact hn ⟨c, by omega, e1, e2⟩
section
variable {f_letterC f_letterR f_letterL f_letterS f_letterE f_triangleLimit f_vertexLimit f_slotCount f_draftCount f_bench f_bitsUsed f_nodeCount f_loopDepth f_boundaryCount f_numbered f_taken f_nextNumber f_viewCount : Int32} {a_draftName a_sideTable a_letterCount a_nodeName a_nodeNext a_nodePrev a_nodeGlue a_loopStack a_boundaryNext a_letters a_offsets a_lengths a_viewName a_viewOpposite : Nat → Int32} {a_packed : Nat → Int64}
theorem xs_step {post : SX → Prop} {n i k : Nat} {d : Nat → Nat} {x2 : Int32} (hi : i < 32) (hk : k < 3) (hd : ∀ c, c < 96 → a_draftName c = nI (d c)) (hl : d (3 * i + k) < 32) (hl' : d (mq_nx (3 * i + k)) < 32)
    (h0 : x2 = 0 → wX_setSides_2 post (nI i) x2 f_letterC f_letterR f_letterL f_letterS f_letterE f_triangleLimit f_vertexLimit f_slotCount f_draftCount f_bench f_bitsUsed f_nodeCount f_loopDepth f_boundaryCount f_numbered f_taken f_nextNumber f_viewCount n (nI (k + 1)) a_draftName (upd a_sideTable (32 * d (3 * i + k) + d (mq_nx (3 * i + k))) 0) a_packed a_letterCount a_nodeName a_nodeNext a_nodePrev a_nodeGlue a_loopStack a_boundaryNext a_letters a_offsets a_lengths a_viewName a_viewOpposite)
    (h1 : ¬ x2 = 0 → wX_setSides_2 post (nI i) x2 f_letterC f_letterR f_letterL f_letterS f_letterE f_triangleLimit f_vertexLimit f_slotCount f_draftCount f_bench f_bitsUsed f_nodeCount f_loopDepth f_boundaryCount f_numbered f_taken f_nextNumber f_viewCount n (nI (k + 1)) a_draftName (upd a_sideTable (32 * d (3 * i + k) + d (mq_nx (3 * i + k))) (nI (3 * i + k + 1))) a_packed a_letterCount a_nodeName a_nodeNext a_nodePrev a_nodeGlue a_loopStack a_boundaryNext a_letters a_offsets a_lengths a_viewName a_viewOpposite) :
    wX_setSides_2 post (nI i) x2 f_letterC f_letterR f_letterL f_letterS f_letterE f_triangleLimit f_vertexLimit f_slotCount f_draftCount f_bench f_bitsUsed f_nodeCount f_loopDepth f_boundaryCount f_numbered f_taken f_nextNumber f_viewCount (n + 1) (nI k) a_draftName a_sideTable a_packed a_letterCount a_nodeName a_nodeNext a_nodePrev a_nodeGlue a_loopStack a_boundaryNext a_letters a_offsets a_lengths a_viewName a_viewOpposite := by
  have hx : mq_nx (3 * i + k) < 96 := mq_lt (n := 32) (by omega)
  have e1 : a_draftName (nI (3 * i + k)).toNatClampNeg = nI (d (3 * i + k)) := by rw [nI_clamp (by omega)]; exact hd _ (by omega)
  have e2 : a_draftName (nI (mq_nx (3 * i + k))).toNatClampNeg = nI (d (mq_nx (3 * i + k))) := by rw [nI_clamp (by omega)]; exact hd _ hx
  rw [wX_setSides_2]
  refine br_f (nI_ge (b := 3) hk (by decide)) ?_
  rw [ar_3, nI_add]
  refine nm_e ?_
  refine xa_next (by omega) ?_
  refine ⟨vp_in_nI (by omega) (by decide), vp_in_nI hx (by decide), ?_⟩
  rw [e1, e2, ar_32, nI_add, nI_clamp (by omega), nI_1 (3 * i + k), nI_1 k]
  exact br_c (fun hb => ⟨vp_in_nI (by omega) (by decide), nm_e (nm_e (h0 hb))⟩) (fun hb => ⟨vp_in_nI (by omega) (by decide), nm_e (nm_e (h1 hb))⟩)
theorem xs_end {post : SX → Prop} {n i : Nat} {x2 : Int32} (h : post (f_letterC, f_letterR, f_letterL, f_letterS, f_letterE, f_triangleLimit, f_vertexLimit, f_slotCount, f_draftCount, f_bench, f_bitsUsed, f_nodeCount, f_loopDepth, f_boundaryCount, f_numbered, f_taken, f_nextNumber, f_viewCount, a_draftName, a_sideTable, a_packed, a_letterCount, a_nodeName, a_nodeNext, a_nodePrev, a_nodeGlue, a_loopStack, a_boundaryNext, a_letters, a_offsets, a_lengths, a_viewName, a_viewOpposite)) : wX_setSides_2 post (nI i) x2 f_letterC f_letterR f_letterL f_letterS f_letterE f_triangleLimit f_vertexLimit f_slotCount f_draftCount f_bench f_bitsUsed f_nodeCount f_loopDepth f_boundaryCount f_numbered f_taken f_nextNumber f_viewCount (n + 1) (nI 3) a_draftName a_sideTable a_packed a_letterCount a_nodeName a_nodeNext a_nodePrev a_nodeGlue a_loopStack a_boundaryNext a_letters a_offsets a_lengths a_viewName a_viewOpposite := by
  rw [wX_setSides_2]
  exact br_t (nI_le (a := 3) (b := 3) (by decide) (by decide)) h
theorem xs_put {post : SX → Prop} {i : Nat} {d : Nat → Nat} (hi : i < 32) (hd : ∀ c, c < 96 → a_draftName c = nI (d c)) (hl : ∀ c, c / 3 = i → d c < 32)
    (h : post (f_letterC, f_letterR, f_letterL, f_letterS, f_letterE, f_triangleLimit, f_vertexLimit, f_slotCount, f_draftCount, f_bench, f_bitsUsed, f_nodeCount, f_loopDepth, f_boundaryCount, f_numbered, f_taken, f_nextNumber, f_viewCount, a_draftName, xs_tab a_sideTable d i (fun c => nI (c + 1)), a_packed, a_letterCount, a_nodeName, a_nodeNext, a_nodePrev, a_nodeGlue, a_loopStack, a_boundaryNext, a_letters, a_offsets, a_lengths, a_viewName, a_viewOpposite)) : wpX_setSides post (f_letterC, f_letterR, f_letterL, f_letterS, f_letterE, f_triangleLimit, f_vertexLimit, f_slotCount, f_draftCount, f_bench, f_bitsUsed, f_nodeCount, f_loopDepth, f_boundaryCount, f_numbered, f_taken, f_nextNumber, f_viewCount, a_draftName, a_sideTable, a_packed, a_letterCount, a_nodeName, a_nodeNext, a_nodePrev, a_nodeGlue, a_loopStack, a_boundaryNext, a_letters, a_offsets, a_lengths, a_viewName, a_viewOpposite) (nI i) 1 := by
  unfold wpX_setSides
  dsimp only
  refine ⟨4, ?_⟩
  refine xs_step (k := 0) hi (by decide) hd (hl _ (by omega)) (hl _ (by rw [mq_div]; omega)) (fun z => absurd z ar_n1) (fun _ => ?_)
  refine xs_step (k := 1) hi (by decide) hd (hl _ (by omega)) (hl _ (by rw [mq_div]; omega)) (fun z => absurd z ar_n1) (fun _ => ?_)
  refine xs_step (k := 2) hi (by decide) hd (hl _ (by omega)) (hl _ (by rw [mq_div]; omega)) (fun z => absurd z ar_n1) (fun _ => ?_)
  exact xs_end h
theorem xs_clr {post : SX → Prop} {i : Nat} {d : Nat → Nat} (hi : i < 32) (hd : ∀ c, c < 96 → a_draftName c = nI (d c)) (hl : ∀ c, c / 3 = i → d c < 32)
    (h : post (f_letterC, f_letterR, f_letterL, f_letterS, f_letterE, f_triangleLimit, f_vertexLimit, f_slotCount, f_draftCount, f_bench, f_bitsUsed, f_nodeCount, f_loopDepth, f_boundaryCount, f_numbered, f_taken, f_nextNumber, f_viewCount, a_draftName, xs_tab a_sideTable d i (fun _ => 0), a_packed, a_letterCount, a_nodeName, a_nodeNext, a_nodePrev, a_nodeGlue, a_loopStack, a_boundaryNext, a_letters, a_offsets, a_lengths, a_viewName, a_viewOpposite)) : wpX_setSides post (f_letterC, f_letterR, f_letterL, f_letterS, f_letterE, f_triangleLimit, f_vertexLimit, f_slotCount, f_draftCount, f_bench, f_bitsUsed, f_nodeCount, f_loopDepth, f_boundaryCount, f_numbered, f_taken, f_nextNumber, f_viewCount, a_draftName, a_sideTable, a_packed, a_letterCount, a_nodeName, a_nodeNext, a_nodePrev, a_nodeGlue, a_loopStack, a_boundaryNext, a_letters, a_offsets, a_lengths, a_viewName, a_viewOpposite) (nI i) 0 := by
  unfold wpX_setSides
  dsimp only
  refine ⟨4, ?_⟩
  refine xs_step (k := 0) hi (by decide) hd (hl _ (by omega)) (hl _ (by rw [mq_div]; omega)) (fun _ => ?_) (fun z => absurd rfl z)
  refine xs_step (k := 1) hi (by decide) hd (hl _ (by omega)) (hl _ (by rw [mq_div]; omega)) (fun _ => ?_) (fun z => absurd rfl z)
  refine xs_step (k := 2) hi (by decide) hd (hl _ (by omega)) (hl _ (by rw [mq_div]; omega)) (fun _ => ?_) (fun z => absurd rfl z)
  exact xs_end h
/-- place: three new corners, three new sides -/
theorem xs_place {post : SX → Prop} {n : Nat} {d d' : Nat → Nat} {p q t : Nat} (hn : n < 32) (hc : f_draftCount = nI n) (hd : ∀ c, c < 96 → a_draftName c = nI (d c)) (hp : p < 32) (hq : q < 32) (ht : t < 32)
    (e0 : d' (3 * n) = p) (e1 : d' (3 * n + 1) = q) (e2 : d' (3 * n + 2) = t) (ee : ∀ c, c / 3 ≠ n → d' c = d c)
    (h : ∀ aD : Nat → Int32, (∀ c, c < 96 → aD c = nI (d' c)) → post (f_letterC, f_letterR, f_letterL, f_letterS, f_letterE, f_triangleLimit, f_vertexLimit, f_slotCount, nI (n + 1), f_bench, f_bitsUsed, f_nodeCount, f_loopDepth, f_boundaryCount, f_numbered, f_taken, f_nextNumber, f_viewCount, aD, xs_tab a_sideTable d' n (fun c => nI (c + 1)), a_packed, a_letterCount, a_nodeName, a_nodeNext, a_nodePrev, a_nodeGlue, a_loopStack, a_boundaryNext, a_letters, a_offsets, a_lengths, a_viewName, a_viewOpposite)) : wpX_place post (f_letterC, f_letterR, f_letterL, f_letterS, f_letterE, f_triangleLimit, f_vertexLimit, f_slotCount, f_draftCount, f_bench, f_bitsUsed, f_nodeCount, f_loopDepth, f_boundaryCount, f_numbered, f_taken, f_nextNumber, f_viewCount, a_draftName, a_sideTable, a_packed, a_letterCount, a_nodeName, a_nodeNext, a_nodePrev, a_nodeGlue, a_loopStack, a_boundaryNext, a_letters, a_offsets, a_lengths, a_viewName, a_viewOpposite) (nI p) (nI q) (nI t) := by
  subst hc
  unfold wpX_place
  dsimp only
  rw [ar_3, nI_1, ar_a2, nI_clamp (by omega), nI_clamp (by omega), nI_clamp (by omega)]
  refine ⟨vp_in_nI (by omega) (by decide), nm_e ⟨vp_in_nI (by omega) (by decide), nm_e ⟨vp_in_nI (by omega) (by decide), nm_e ?_⟩⟩⟩
  have hd' : ∀ c, c < 96 → upd (upd (upd a_draftName (3 * n) (nI p)) (3 * n + 1) (nI q)) (3 * n + 2) (nI t) c = nI (d' c) := by
    intro c hc
    by_cases h2 : c = 3 * n + 2
    · rw [h2, pk_us, e2]
    · by_cases h1 : c = 3 * n + 1
      · rw [h1, pk_un (by omega), pk_us, e1]
      · by_cases h0 : c = 3 * n
        · rw [h0, pk_un (by omega), pk_un (by omega), pk_us, e0]
        · rw [pk_un h2, pk_un h1, pk_un h0, ee c (by omega)]
          exact hd c hc
  refine xs_put (d := d') hn hd' ?_ ?_
  · intro c hc
    rcases (by omega : c = 3 * n ∨ c = 3 * n + 1 ∨ c = 3 * n + 2) with rfl | rfl | rfl
    · rw [e0]; exact hp
    · rw [e1]; exact hq
    · rw [e2]; exact ht
  · refine nm_r (nI_1 n) ?_
    exact h _ hd'
theorem xs_clear_loop {post : SX → Prop} {n V : Nat} {d : Nat → Nat} (hn : n ≤ 32) (hV : V ≤ 32) (hok : md_Ok n V d) (hc : f_draftCount = nI n) (hd : ∀ c, c < 96 → a_draftName c = nI (d c))
    (h : ∀ tab : Nat → Int32, xd_Tab 0 V d tab → post (f_letterC, f_letterR, f_letterL, f_letterS, f_letterE, f_triangleLimit, f_vertexLimit, f_slotCount, 0, f_bench, f_bitsUsed, f_nodeCount, f_loopDepth, f_boundaryCount, f_numbered, f_taken, f_nextNumber, f_viewCount, a_draftName, tab, a_packed, a_letterCount, a_nodeName, a_nodeNext, a_nodePrev, a_nodeGlue, a_loopStack, a_boundaryNext, a_letters, a_offsets, a_lengths, a_viewName, a_viewOpposite)) :
    ∀ m i, n - i < m → i ≤ n → ∀ tab : Nat → Int32, xd_TP (fun f => i ≤ f ∧ f < n) V d tab → wX_clearDraft_2 post m (nI i) f_letterC f_letterR f_letterL f_letterS f_letterE f_triangleLimit f_vertexLimit f_slotCount f_draftCount f_bench f_bitsUsed f_nodeCount f_loopDepth f_boundaryCount f_numbered f_taken f_nextNumber f_viewCount a_draftName tab a_packed a_letterCount a_nodeName a_nodeNext a_nodePrev a_nodeGlue a_loopStack a_boundaryNext a_letters a_offsets a_lengths a_viewName a_viewOpposite := by
  subst hc
  intro m
  induction m with
  | zero => intro i hm; omega
  | succ m ih =>
    intro i hm hi tab ht
    rw [wX_clearDraft_2]
    refine pk_le n i (fun hle => ?_) (fun hlt => ?_)
    · refine h tab (xd_TP_iff.mp ?_)
      intro p q hp hq
      rcases ht p q hp hq with ⟨c, hc, _⟩ | ⟨_, e⟩
      · omega
      · exact Or.inr ⟨fun c hc => by dsimp only at hc; omega, e⟩
    · refine xs_clr (d := d) (by omega) hd (fun c hc => by have := hok.1 c (by omega); omega) ?_
      refine nm_r (nI_1 i) ?_
      refine ih (i + 1) (by omega) (by omega) _ ?_
      refine xd_clr hV hok (fun f hf => hf.2) hlt (fun f => ?_) ht
      omega
theorem xs_clearDraft {post : SX → Prop} {n V : Nat} {d : Nat → Nat} (hn : n ≤ 32) (hV : V ≤ 32) (hok : md_Ok n V d) (hc : f_draftCount = nI n) (hd : ∀ c, c < 96 → a_draftName c = nI (d c)) (ht : xd_Tab n V d a_sideTable)
    (h : ∀ tab : Nat → Int32, xd_Tab 0 V d tab → post (f_letterC, f_letterR, f_letterL, f_letterS, f_letterE, f_triangleLimit, f_vertexLimit, f_slotCount, 0, f_bench, f_bitsUsed, f_nodeCount, f_loopDepth, f_boundaryCount, f_numbered, f_taken, f_nextNumber, f_viewCount, a_draftName, tab, a_packed, a_letterCount, a_nodeName, a_nodeNext, a_nodePrev, a_nodeGlue, a_loopStack, a_boundaryNext, a_letters, a_offsets, a_lengths, a_viewName, a_viewOpposite)) : wpX_clearDraft post (f_letterC, f_letterR, f_letterL, f_letterS, f_letterE, f_triangleLimit, f_vertexLimit, f_slotCount, f_draftCount, f_bench, f_bitsUsed, f_nodeCount, f_loopDepth, f_boundaryCount, f_numbered, f_taken, f_nextNumber, f_viewCount, a_draftName, a_sideTable, a_packed, a_letterCount, a_nodeName, a_nodeNext, a_nodePrev, a_nodeGlue, a_loopStack, a_boundaryNext, a_letters, a_offsets, a_lengths, a_viewName, a_viewOpposite) := by
  unfold wpX_clearDraft
  dsimp only
  refine ⟨n + 1, xs_clear_loop hn hV hok hc hd h (n + 1) 0 (by omega) (by omega) _ ?_⟩
  have := xd_TP_iff.mpr ht
  intro p q hp hq
  rcases this p q hp hq with ⟨c, hc, e⟩ | ⟨hn, e⟩
  · exact Or.inl ⟨c, ⟨by omega, hc⟩, e⟩
  · exact Or.inr ⟨fun c hc => hn c hc.2, e⟩
theorem xs_apex {post : Int32 → Prop} {n V : Nat} {d : Nat → Nat} (hV : f_vertexLimit = nI V) (hV2 : V ≤ 32) (hn : n ≤ 32) (hd : ∀ c, c < 96 → a_draftName c = nI (d c)) (ht : xd_Tab n V d a_sideTable) (p0 p1 : Int32)
    (h1 : ∀ c, c < 3 * n → p0 = nI (d c) → p1 = nI (d (mq_nx c)) → post (nI (d (mq_nx (mq_nx c))))) (h0 : (∀ p q, p < V → q < V → p0 = nI p → p1 = nI q → ¬ md_S n d p q) → post (-10)) : wpX_apex post (f_letterC, f_letterR, f_letterL, f_letterS, f_letterE, f_triangleLimit, f_vertexLimit, f_slotCount, f_draftCount, f_bench, f_bitsUsed, f_nodeCount, f_loopDepth, f_boundaryCount, f_numbered, f_taken, f_nextNumber, f_viewCount, a_draftName, a_sideTable, a_packed, a_letterCount, a_nodeName, a_nodeNext, a_nodePrev, a_nodeGlue, a_loopStack, a_boundaryNext, a_letters, a_offsets, a_lengths, a_viewName, a_viewOpposite) p0 p1 := by
  unfold wpX_apex
  dsimp only
  refine xa_side hV hV2 hn ht p0 p1 (fun c hc e1 e2 => ?_) (fun h => br_f ar_ng (h0 h))
  refine br_t (nI_pos' (by omega)) ?_
  have hx : mq_nx (mq_nx c) < 96 := mq_lt (n := 32) (mq_lt (n := 32) (by omega))
  refine xa_tip (by omega) ⟨vp_in_nI hx (by decide), ?_⟩
  rw [nI_clamp (by omega), hd _ hx]
  exact h1 c hc e1 e2
theorem xs_rm_loop {post : Int32 → SX → Prop} {n i : Nat} {d : Nat → Nat} (hn : n < 32) (hi : i < n) (hc : f_draftCount = nI n) (hd : ∀ c, c < 96 → a_draftName c = nI (d c)) (d' : Nat → Nat) (hl : ∀ c, c / 3 = i → d' c < 32)
    (e1 : ∀ k, k < 3 → d' (3 * i + k) = d (3 * n + k)) (e2 : ∀ c, c / 3 ≠ i → d' c = d c)
    (h : ∀ aD : Nat → Int32, (∀ c, c < 96 → aD c = nI (d' c)) → post 0 (f_letterC, f_letterR, f_letterL, f_letterS, f_letterE, f_triangleLimit, f_vertexLimit, f_slotCount, f_draftCount, f_bench, f_bitsUsed, f_nodeCount, f_loopDepth, f_boundaryCount, f_numbered, f_taken, f_nextNumber, f_viewCount, aD, xs_tab a_sideTable d' i (fun c => nI (c + 1)), a_packed, a_letterCount, a_nodeName, a_nodeNext, a_nodePrev, a_nodeGlue, a_loopStack, a_boundaryNext, a_letters, a_offsets, a_lengths, a_viewName, a_viewOpposite)) :
    ∃ m, wX_removeTriangle_48 post (nI i) f_letterC f_letterR f_letterL f_letterS f_letterE f_triangleLimit f_vertexLimit f_slotCount f_draftCount f_bench f_bitsUsed f_nodeCount f_loopDepth f_boundaryCount f_numbered f_taken f_nextNumber f_viewCount m 0 a_draftName a_sideTable a_packed a_letterCount a_nodeName a_nodeNext a_nodePrev a_nodeGlue a_loopStack a_boundaryNext a_letters a_offsets a_lengths a_viewName a_viewOpposite := by
  subst hc
  have step : ∀ m k, k < 3 → ∀ aD : Nat → Int32, (∀ c, c < 96 → (c < 3 * i ∨ 3 * i + k ≤ c) → aD c = nI (d c)) →
      wX_removeTriangle_48 post (nI i) f_letterC f_letterR f_letterL f_letterS f_letterE f_triangleLimit f_vertexLimit f_slotCount (nI n) f_bench f_bitsUsed f_nodeCount f_loopDepth f_boundaryCount f_numbered f_taken f_nextNumber f_viewCount m (nI (k + 1)) (upd aD (3 * i + k) (nI (d (3 * n + k)))) a_sideTable a_packed a_letterCount a_nodeName a_nodeNext a_nodePrev a_nodeGlue a_loopStack a_boundaryNext a_letters a_offsets a_lengths a_viewName a_viewOpposite →
      wX_removeTriangle_48 post (nI i) f_letterC f_letterR f_letterL f_letterS f_letterE f_triangleLimit f_vertexLimit f_slotCount (nI n) f_bench f_bitsUsed f_nodeCount f_loopDepth f_boundaryCount f_numbered f_taken f_nextNumber f_viewCount (m + 1) (nI k) aD a_sideTable a_packed a_letterCount a_nodeName a_nodeNext a_nodePrev a_nodeGlue a_loopStack a_boundaryNext a_letters a_offsets a_lengths a_viewName a_viewOpposite := by
    intro m k hk aD ha hh
    rw [wX_removeTriangle_48]
    refine br_f (nI_ge (b := 3) hk (by decide)) ?_
    rw [ar_3, ar_3, nI_add, nI_add, nI_clamp (by omega), nI_clamp (by omega), ha (3 * n + k) (by omega) (by omega)]
    exact ⟨vp_in_nI (by omega) (by decide), vp_in_nI (by omega) (by decide), nm_e (nm_r (nI_1 k) hh)⟩
  refine ⟨4, ?_⟩
  refine step 3 0 (by decide) _ (fun c hc _ => hd c hc) ?_
  refine step 2 1 (by decide) _ (fun c hc h' => by rw [pk_un (by omega)]; exact hd c hc) ?_
  refine step 1 2 (by decide) _ (fun c hc h' => by rw [pk_un (by omega), pk_un (by omega)]; exact hd c hc) ?_
  rw [wX_removeTriangle_48]
  refine br_t (nI_le (a := 3) (b := 3) (by decide) (by decide)) ?_
  have ha : ∀ c, c < 96 → upd (upd (upd a_draftName (3 * i + 0) (nI (d (3 * n + 0)))) (3 * i + 1) (nI (d (3 * n + 1)))) (3 * i + 2) (nI (d (3 * n + 2))) c = nI (d' c) := by
    intro c hc
    by_cases h2 : c = 3 * i + 2
    · rw [h2, pk_us, e1 2 (by decide)]
    · by_cases h1 : c = 3 * i + 1
      · rw [h1, pk_un (by omega), pk_us, e1 1 (by decide)]
      · by_cases h0 : c = 3 * i + 0
        · rw [h0, pk_un (by omega), pk_un (by omega), pk_us, e1 0 (by decide)]
        · rw [pk_un h2, pk_un h1, pk_un h0, e2 c (by omega)]
          exact hd c hc
  exact xs_put (d := d') (by omega) ha hl (h _ ha)
end
end
section
/-! walks of the component over linked loops -/
theorem xn_last {nx pv : Nat → Int32} {l : List Nat} : ∀ {x y : Nat}, xn_ch nx pv x (l ++ [y]) → ∃ last l0, x :: l = l0 ++ [last] ∧ xn_lk nx pv last y := by
  induction l with
  | nil => intro x y h; exact ⟨x, [], rfl, h.1⟩
  | cons z l ih =>
    intro x y h
    obtain ⟨last, l0, e, k⟩ := ih h.2
    exact ⟨last, x :: l0, by rw [e]; rfl, k⟩
def xn_af (m j : Nat) : Nat := if j + 1 < m then j + 1 else 0
theorem xn_ring {nx pv : Nat → Int32} {m : Nat} (hm : 1 ≤ m) (h : ∀ j, j < m → nx j = nI (xn_af m j) ∧ pv (xn_af m j) = nI j) : xn_nd nx pv m [List.range m] := by
  have key : ∀ k s, s + 1 + k = m → xn_ch nx pv s (List.range' (s + 1) k ++ [0]) := by
    intro k
    induction k with
    | zero =>
      intro s hs
      have := h s (by omega)
      rw [show xn_af m s = 0 from if_neg (by omega)] at this
      exact ⟨this, trivial⟩
    | succ k ih =>
      intro s hs
      have := h s (by omega)
      rw [show xn_af m s = s + 1 from if_pos (by omega)] at this
      rw [List.range'_succ]
      exact ⟨this, ih (s + 1) (by omega)⟩
  obtain ⟨k, rfl⟩ : ∃ k, m = k + 1 := ⟨m - 1, by omega⟩
  refine ⟨?_, ?_, ?_⟩
  · intro l hl
    rw [List.mem_singleton.mp hl, List.range_eq_range', List.range'_succ]
    exact key k 0 (by omega)
  · rw [List.flatten_cons, List.flatten_nil, List.append_nil]
    exact List.nodup_range
  · intro x hx
    rw [List.flatten_cons, List.flatten_nil, List.append_nil] at hx
    exact List.mem_range.mp hx
section
variable {f_letterC f_letterR f_letterL f_letterS f_letterE f_triangleLimit f_vertexLimit f_slotCount f_draftCount f_bench f_bitsUsed f_nodeCount f_loopDepth f_boundaryCount f_numbered f_taken f_nextNumber f_viewCount : Int32} {a_draftName a_sideTable a_letterCount a_nodeName a_nodeNext a_nodePrev a_nodeGlue a_loopStack a_boundaryNext a_letters a_offsets a_lengths a_viewName a_viewOpposite : Nat → Int32} {a_packed : Nat → Int64}
theorem xw_new {post : Int32 → SX → Prop} {nc : Nat} (h1 : f_nodeCount = nI nc) (h2 : nc < 64) (p0 : Int32) (h : post (nI nc) (f_letterC, f_letterR, f_letterL, f_letterS, f_letterE, f_triangleLimit, f_vertexLimit, f_slotCount, f_draftCount, f_bench, f_bitsUsed, nI (nc + 1), f_loopDepth, f_boundaryCount, f_numbered, f_taken, f_nextNumber, f_viewCount, a_draftName, a_sideTable, a_packed, a_letterCount, upd a_nodeName nc p0, a_nodeNext, a_nodePrev, upd a_nodeGlue nc (-1), a_loopStack, a_boundaryNext, a_letters, a_offsets, a_lengths, a_viewName, a_viewOpposite)) : wpX_newNode post (f_letterC, f_letterR, f_letterL, f_letterS, f_letterE, f_triangleLimit, f_vertexLimit, f_slotCount, f_draftCount, f_bench, f_bitsUsed, f_nodeCount, f_loopDepth, f_boundaryCount, f_numbered, f_taken, f_nextNumber, f_viewCount, a_draftName, a_sideTable, a_packed, a_letterCount, a_nodeName, a_nodeNext, a_nodePrev, a_nodeGlue, a_loopStack, a_boundaryNext, a_letters, a_offsets, a_lengths, a_viewName, a_viewOpposite) p0 := by
  subst h1
  unfold wpX_newNode
  dsimp only
  rw [nI_clamp (by omega)]
  exact ⟨vp_in_nI h2 (by decide), nm_e ⟨vp_in_nI h2 (by decide), nm_e (nm_r (nI_1 nc) h)⟩⟩
theorem xw_join {post : SX → Prop} {x y : Nat} (hx : x < 64) (hy : y < 64) (h : post (f_letterC, f_letterR, f_letterL, f_letterS, f_letterE, f_triangleLimit, f_vertexLimit, f_slotCount, f_draftCount, f_bench, f_bitsUsed, f_nodeCount, f_loopDepth, f_boundaryCount, f_numbered, f_taken, f_nextNumber, f_viewCount, a_draftName, a_sideTable, a_packed, a_letterCount, a_nodeName, upd a_nodeNext x (nI y), upd a_nodePrev y (nI x), a_nodeGlue, a_loopStack, a_boundaryNext, a_letters, a_offsets, a_lengths, a_viewName, a_viewOpposite)) : wpX_join post (f_letterC, f_letterR, f_letterL, f_letterS, f_letterE, f_triangleLimit, f_vertexLimit, f_slotCount, f_draftCount, f_bench, f_bitsUsed, f_nodeCount, f_loopDepth, f_boundaryCount, f_numbered, f_taken, f_nextNumber, f_viewCount, a_draftName, a_sideTable, a_packed, a_letterCount, a_nodeName, a_nodeNext, a_nodePrev, a_nodeGlue, a_loopStack, a_boundaryNext, a_letters, a_offsets, a_lengths, a_viewName, a_viewOpposite) (nI x) (nI y) := by
  unfold wpX_join
  dsimp only
  rw [nI_clamp (by omega), nI_clamp (by omega)]
  exact ⟨vp_in_nI hx (by decide), nm_e ⟨vp_in_nI hy (by decide), nm_e h⟩⟩
theorem xw_push {post : SX → Prop} {dp : Nat} (h1 : f_loopDepth = nI dp) (h2 : dp < 64) (p0 : Int32) (h : post (f_letterC, f_letterR, f_letterL, f_letterS, f_letterE, f_triangleLimit, f_vertexLimit, f_slotCount, f_draftCount, f_bench, f_bitsUsed, f_nodeCount, nI (dp + 1), f_boundaryCount, f_numbered, f_taken, f_nextNumber, f_viewCount, a_draftName, a_sideTable, a_packed, a_letterCount, a_nodeName, a_nodeNext, a_nodePrev, a_nodeGlue, upd a_loopStack dp p0, a_boundaryNext, a_letters, a_offsets, a_lengths, a_viewName, a_viewOpposite)) : wpX_push post (f_letterC, f_letterR, f_letterL, f_letterS, f_letterE, f_triangleLimit, f_vertexLimit, f_slotCount, f_draftCount, f_bench, f_bitsUsed, f_nodeCount, f_loopDepth, f_boundaryCount, f_numbered, f_taken, f_nextNumber, f_viewCount, a_draftName, a_sideTable, a_packed, a_letterCount, a_nodeName, a_nodeNext, a_nodePrev, a_nodeGlue, a_loopStack, a_boundaryNext, a_letters, a_offsets, a_lengths, a_viewName, a_viewOpposite) p0 := by
  subst h1
  unfold wpX_push
  dsimp only
  rw [nI_clamp (by omega)]
  exact ⟨vp_in_nI h2 (by decide), nm_e (nm_r (nI_1 dp) h)⟩
theorem xw_pop {post : Int32 → SX → Prop} {dp : Nat} (h1 : f_loopDepth = nI (dp + 1)) (h2 : dp < 64) (h : post (a_loopStack dp) (f_letterC, f_letterR, f_letterL, f_letterS, f_letterE, f_triangleLimit, f_vertexLimit, f_slotCount, f_draftCount, f_bench, f_bitsUsed, f_nodeCount, nI dp, f_boundaryCount, f_numbered, f_taken, f_nextNumber, f_viewCount, a_draftName, a_sideTable, a_packed, a_letterCount, a_nodeName, a_nodeNext, a_nodePrev, a_nodeGlue, a_loopStack, a_boundaryNext, a_letters, a_offsets, a_lengths, a_viewName, a_viewOpposite)) : wpX_pop post (f_letterC, f_letterR, f_letterL, f_letterS, f_letterE, f_triangleLimit, f_vertexLimit, f_slotCount, f_draftCount, f_bench, f_bitsUsed, f_nodeCount, f_loopDepth, f_boundaryCount, f_numbered, f_taken, f_nextNumber, f_viewCount, a_draftName, a_sideTable, a_packed, a_letterCount, a_nodeName, a_nodeNext, a_nodePrev, a_nodeGlue, a_loopStack, a_boundaryNext, a_letters, a_offsets, a_lengths, a_viewName, a_viewOpposite) := by
  subst h1
  unfold wpX_pop
  dsimp only
  refine nm_r (nI_pred dp) ?_
  rw [nI_clamp (by omega)]
  exact ⟨vp_in_nI h2 (by decide), h⟩
/-- closeRing: the nodes 0 .. m-1 in one loop, the only one -/
theorem xw_close_loop {post : SX → Prop} {m : Nat} (hm : 1 ≤ m) (hm2 : m ≤ 64) (hc : f_nodeCount = nI m)
    (h : ∀ nx pv st : Nat → Int32, xn_nd nx pv m [List.range m] → st 0 = nI 0 → post (f_letterC, f_letterR, f_letterL, f_letterS, f_letterE, f_triangleLimit, f_vertexLimit, f_slotCount, f_draftCount, f_bench, f_bitsUsed, f_nodeCount, nI 1, f_boundaryCount, f_numbered, f_taken, f_nextNumber, f_viewCount, a_draftName, a_sideTable, a_packed, a_letterCount, a_nodeName, nx, pv, a_nodeGlue, st, a_boundaryNext, a_letters, a_offsets, a_lengths, a_viewName, a_viewOpposite)) :
    ∀ n i, m - i < n → i ≤ m → ∀ nx pv : Nat → Int32, (∀ j, j < i → nx j = nI (xn_af m j) ∧ pv (xn_af m j) = nI j) → wX_closeRing_2 post n (nI i) f_letterC f_letterR f_letterL f_letterS f_letterE f_triangleLimit f_vertexLimit f_slotCount f_draftCount f_bench f_bitsUsed f_nodeCount f_loopDepth f_boundaryCount f_numbered f_taken f_nextNumber f_viewCount a_draftName a_sideTable a_packed a_letterCount a_nodeName nx pv a_nodeGlue a_loopStack a_boundaryNext a_letters a_offsets a_lengths a_viewName a_viewOpposite := by
  subst hc
  intro n
  induction n with
  | zero => intro i hn; omega
  | succ n ih =>
    intro i hn hi nx pv hI
    rw [wX_closeRing_2]
    refine pk_le m i (fun hle => ?_) (fun hlt => ?_)
    · have e : i = m := by omega
      subst e
      refine xw_push (dp := 0) rfl (by omega) _ ?_
      exact h nx pv _ (xn_ring hm hI) pk_us
    · have step : ∀ y, y = xn_af m i → wX_closeRing_27 post (wX_closeRing_2 post n) (nI i) (nI y) f_letterC f_letterR f_letterL f_letterS f_letterE f_triangleLimit f_vertexLimit f_slotCount f_draftCount f_bench f_bitsUsed (nI m) f_loopDepth f_boundaryCount f_numbered f_taken f_nextNumber f_viewCount a_draftName a_sideTable a_packed a_letterCount a_nodeName nx pv a_nodeGlue a_loopStack a_boundaryNext a_letters a_offsets a_lengths a_viewName a_viewOpposite := by
        intro y hy
        have hy64 : y < 64 := by
          rw [hy]; unfold xn_af; split <;> omega
        unfold wX_closeRing_27
        refine xw_join (by omega) hy64 ?_
        refine nm_r (nI_1 i) ?_
        refine ih (i + 1) (by omega) (by omega) _ _ ?_
        intro j hj
        by_cases e : j = i
        · subst e
          rw [← hy, pk_us, pk_us]
          exact ⟨rfl, rfl⟩
        · have ne : xn_af m j ≠ y := by
            rw [hy]; unfold xn_af
            rw [if_pos (by omega : j + 1 < m)]
            split <;> omega
          rw [pk_un e, pk_un ne]
          exact hI j (by omega)
      rw [nI_1]
      refine pk_le m (i + 1) (fun h' => ?_) (fun h' => ?_)
      · exact step 0 (if_neg (by omega)).symm
      · exact step (i + 1) (if_pos h').symm
theorem xw_close {post : SX → Prop} {m : Nat} (hm : 1 ≤ m) (hm2 : m ≤ 64) (hc : f_nodeCount = nI m)
    (h : ∀ nx pv st : Nat → Int32, xn_nd nx pv m [List.range m] → st 0 = nI 0 → post (f_letterC, f_letterR, f_letterL, f_letterS, f_letterE, f_triangleLimit, f_vertexLimit, f_slotCount, f_draftCount, f_bench, f_bitsUsed, f_nodeCount, nI 1, f_boundaryCount, f_numbered, f_taken, f_nextNumber, f_viewCount, a_draftName, a_sideTable, a_packed, a_letterCount, a_nodeName, nx, pv, a_nodeGlue, st, a_boundaryNext, a_letters, a_offsets, a_lengths, a_viewName, a_viewOpposite)) : wpX_closeRing post (f_letterC, f_letterR, f_letterL, f_letterS, f_letterE, f_triangleLimit, f_vertexLimit, f_slotCount, f_draftCount, f_bench, f_bitsUsed, f_nodeCount, f_loopDepth, f_boundaryCount, f_numbered, f_taken, f_nextNumber, f_viewCount, a_draftName, a_sideTable, a_packed, a_letterCount, a_nodeName, a_nodeNext, a_nodePrev, a_nodeGlue, a_loopStack, a_boundaryNext, a_letters, a_offsets, a_lengths, a_viewName, a_viewOpposite) := by
  unfold wpX_closeRing
  dsimp only
  exact ⟨m + 1, xw_close_loop hm hm2 hc h (m + 1) 0 (by omega) (by omega) _ _ (fun j hj => absurd hj (Nat.not_lt_zero _))⟩
/-- locate: the node of the gate's loop with the name t -/
theorem xw_loc_loop {post : Int32 → Prop} {g t nc : Nat} {nm : Nat → Nat} (hg : g < 64) (ht : t < 32) (hnm : ∀ x, x < nc → a_nodeName x = nI (nm x) ∧ nm x < 32) (hN : nc ≤ 64) (l : List Nat) :
    ∀ (x n i : Nat), xn_ch a_nodeNext a_nodePrev x (l ++ [g]) → (∀ z, z ∈ l → z < nc ∧ z ≠ g) → l.length < n → i + l.length < 64 →
      (∀ l1 y l2, l = l1 ++ y :: l2 → nm y = t → (∀ z, z ∈ l1 → nm z ≠ t) → post (nI y)) → ((∀ z, z ∈ l → nm z ≠ t) → post (-1)) → wX_locate_10 post (nI g) (nI t) f_letterC f_letterR f_letterL f_letterS f_letterE f_triangleLimit f_vertexLimit f_slotCount f_draftCount f_bench f_bitsUsed f_nodeCount f_loopDepth f_boundaryCount f_numbered f_taken f_nextNumber f_viewCount a_draftName a_sideTable a_packed a_letterCount a_nodeName a_nodeNext a_nodePrev a_nodeGlue a_loopStack a_boundaryNext a_letters a_offsets a_lengths a_viewName a_viewOpposite n (a_nodeNext x) (nI i) := by
  induction l with
  | nil =>
    intro x n i hch _ hn hi _ h0
    obtain ⟨n, rfl⟩ : ∃ k, n = k + 1 := ⟨n - 1, by rw [List.length_nil] at hn; omega⟩
    rw [wX_locate_10]
    exact br_f (nI_ge (b := 64) (by rw [List.length_nil] at hi; omega) (by decide)) (br_t hch.1.1 (h0 (fun z hz => nomatch hz)))
  | cons y l ih =>
    intro x n i hch hz hn hi h1 h0
    rw [List.length_cons] at hn hi
    obtain ⟨n, rfl⟩ : ∃ k, n = k + 1 := ⟨n - 1, by omega⟩
    have hy := hz y (List.mem_cons_self)
    rw [wX_locate_10, hch.1.1]
    dsimp only
    rw [nI_clamp (by omega), (hnm y hy.1).1]
    have ne : ¬ nI y = nI g := by rw [nI_eq (by omega) (by omega)]; exact hy.2
    refine br_f (nI_ge (b := 64) (by omega) (by decide)) (br_f ne ⟨vp_in_nI (by omega) (by decide), ?_⟩)
    refine pk_eq (nm y) t (fun e => h1 [] y l rfl e (fun z hz => nomatch hz)) (fun e => ?_) rfl rfl (by have := (hnm y hy.1).2; omega) (by omega)
    refine ⟨vp_in_nI (by omega) (by decide), nm_e (nm_r (nI_1 i) ?_)⟩
    refine ih y n (i + 1) hch.2 (fun z hz' => hz z (List.mem_cons_of_mem _ hz')) (by omega) (by omega) (fun l1 y' l2 e' e1 e2 => ?_) (fun hn' => ?_)
    · refine h1 (y :: l1) y' l2 (by rw [e']; rfl) e1 (fun z hz' => ?_)
      rcases List.mem_cons.mp hz' with rfl | hz'
      · exact e
      · exact e2 z hz'
    · refine h0 (fun z hz' => ?_)
      rcases List.mem_cons.mp hz' with rfl | hz'
      · exact e
      · exact hn' z hz'
theorem xw_loc {post : Int32 → Prop} {g t nc : Nat} {nm : Nat → Nat} {tl : List Nat} (hch : xn_ch a_nodeNext a_nodePrev g (tl ++ [g])) (hnd : (g :: tl).Nodup) (hlt : ∀ z, z ∈ g :: tl → z < nc) (hN : nc ≤ 64) (ht : t < 32) (hnm : ∀ x, x < nc → a_nodeName x = nI (nm x) ∧ nm x < 32)
    (h1 : ∀ l1 y l2, tl = l1 ++ y :: l2 → nm y = t → (∀ z, z ∈ l1 → nm z ≠ t) → post (nI y)) (h0 : (∀ z, z ∈ tl → nm z ≠ t) → post (-1)) : wpX_locate post (f_letterC, f_letterR, f_letterL, f_letterS, f_letterE, f_triangleLimit, f_vertexLimit, f_slotCount, f_draftCount, f_bench, f_bitsUsed, f_nodeCount, f_loopDepth, f_boundaryCount, f_numbered, f_taken, f_nextNumber, f_viewCount, a_draftName, a_sideTable, a_packed, a_letterCount, a_nodeName, a_nodeNext, a_nodePrev, a_nodeGlue, a_loopStack, a_boundaryNext, a_letters, a_offsets, a_lengths, a_viewName, a_viewOpposite) (nI g) (nI t) := by
  have hg : g < 64 := Nat.lt_of_lt_of_le (hlt g (List.mem_cons_self)) hN
  have hlen := mb_nodup_lt hnd (fun z hz => Nat.lt_of_lt_of_le (hlt z hz) hN)
  rw [List.length_cons] at hlen
  unfold wpX_locate
  dsimp only
  rw [nI_clamp (by omega)]
  refine ⟨vp_in_nI hg (by decide), nm_e ⟨tl.length + 1, ?_⟩⟩
  exact xw_loc_loop hg ht hnm hN tl g _ 0 hch (fun z hz => ⟨hlt z (List.mem_cons_of_mem _ hz), fun e => (List.nodup_cons.mp hnd).1 (e ▸ hz)⟩) (by omega) (by omega) h1 h0
theorem xw_cls0 {post : Int32 → Prop} {p0 : Int32} (h : post 0) : wpX_classify post (f_letterC, f_letterR, f_letterL, f_letterS, f_letterE, f_triangleLimit, f_vertexLimit, f_slotCount, f_draftCount, f_bench, f_bitsUsed, f_nodeCount, f_loopDepth, f_boundaryCount, f_numbered, f_taken, f_nextNumber, f_viewCount, a_draftName, a_sideTable, a_packed, a_letterCount, a_nodeName, a_nodeNext, a_nodePrev, a_nodeGlue, a_loopStack, a_boundaryNext, a_letters, a_offsets, a_lengths, a_viewName, a_viewOpposite) p0 (-1) := by
  unfold wpX_classify
  dsimp only
  exact br_f ar_ng h
theorem xw_cls {post : Int32 → Prop} {nc g a far : Nat} {l1 l2 : List Nat} {rest : List (List Nat)} (hnd : xn_nd a_nodeNext a_nodePrev nc ((g :: a :: (l1 ++ far :: l2)) :: rest)) (hN : nc ≤ 64)
    (h7 : l1 = [] → l2 = [] → post 7) (h4 : l1 = [] → l2 ≠ [] → post 4) (h5 : l1 ≠ [] → l2 = [] → post 5) (h6 : l1 ≠ [] → l2 ≠ [] → post 6) : wpX_classify post (f_letterC, f_letterR, f_letterL, f_letterS, f_letterE, f_triangleLimit, f_vertexLimit, f_slotCount, f_draftCount, f_bench, f_bitsUsed, f_nodeCount, f_loopDepth, f_boundaryCount, f_numbered, f_taken, f_nextNumber, f_viewCount, a_draftName, a_sideTable, a_packed, a_letterCount, a_nodeName, a_nodeNext, a_nodePrev, a_nodeGlue, a_loopStack, a_boundaryNext, a_letters, a_offsets, a_lengths, a_viewName, a_viewOpposite) (nI g) (nI far) := by
  obtain ⟨t1, t2, t3, t4, t5, t6, t7, t8⟩ := xn_top hnd
  obtain ⟨n1, n2, n3, n4, n5, n6, n7, n8, n9, n10, n11, n12⟩ := mr_nd_t t1
  have hg : g < 64 := Nat.lt_of_lt_of_le (t4 g (by simp)) hN
  have ha : a < 64 := Nat.lt_of_lt_of_le (t4 a (by simp)) hN
  have hf : far < 64 := Nat.lt_of_lt_of_le (t4 far (by simp)) hN
  have hA : (a_nodeNext a = nI far ↔ l1 = []) := by
    cases l1 with
    | nil => exact ⟨fun _ => rfl, fun _ => t7.1.1⟩
    | cons y l =>
      have hy : y < 64 := Nat.lt_of_lt_of_le (t4 y (by simp)) hN
      have e := t7.1.1
      rw [e, nI_eq (by omega) (by omega)]
      exact ⟨fun z => absurd (by rw [z]; simp) n1, fun z => nomatch z⟩
  have hB : (a_nodePrev g = nI far ↔ l2 = []) := by
    obtain ⟨last, l0, e0, hlk⟩ := xn_last t7
    have hl : last ∈ a :: (l1 ++ far :: l2) := by rw [e0]; simp
    have hl64 : last < 64 := Nat.lt_of_lt_of_le (t4 last (List.mem_cons_of_mem _ hl)) hN
    rw [hlk.2, nI_eq (by omega) (by omega)]
    rcases List.eq_nil_or_concat l2 with rfl | ⟨l3, z, rfl⟩
    · have e1 : (a :: l1) ++ [far] = l0 ++ [last] := e0
      have := List.append_inj' e1 rfl
      simp at this
      exact ⟨fun _ => rfl, fun _ => this.2.symm⟩
    · have e1 : (a :: (l1 ++ far :: l3)) ++ [z] = l0 ++ [last] := by rw [← e0]; simp
      have := List.append_inj' e1 rfl
      simp at this
      rw [← this.2]
      refine ⟨fun e => absurd (by rw [← e]; simp) n2, fun e => ?_⟩
      simp at e
  unfold wpX_classify
  dsimp only
  rw [nI_clamp (by omega), t6.1, nI_clamp (by omega)]
  refine br_t (nI_pos' (by omega)) ⟨vp_in_nI hg (by decide), vp_in_nI ha (by decide), ?_⟩
  have fin : ∀ z : Int32, (z = 1 ∧ l1 = []) ∨ (z = 0 ∧ l1 ≠ []) → wX_classify_26 post (nI g) (nI far) z f_letterC f_letterR f_letterL f_letterS f_letterE f_triangleLimit f_vertexLimit f_slotCount f_draftCount f_bench f_bitsUsed f_nodeCount f_loopDepth f_boundaryCount f_numbered f_taken f_nextNumber f_viewCount a_draftName a_sideTable a_packed a_letterCount a_nodeName a_nodeNext a_nodePrev a_nodeGlue a_loopStack a_boundaryNext a_letters a_offsets a_lengths a_viewName a_viewOpposite := by
    intro z hz
    unfold wX_classify_26
    rw [nI_clamp (by omega)]
    refine ⟨vp_in_nI hg (by decide), br_c (fun e => ?_) (fun e => ?_)⟩
    · rw [hB] at e
      unfold wX_classify_42
      rcases hz with ⟨rfl, hz⟩ | ⟨rfl, hz⟩
      · exact br_f ar_n1 (br_f ar_n1 (h7 hz e))
      · exact br_t rfl (br_f ar_n1 (h5 hz e))
    · rw [hB] at e
      unfold wX_classify_42
      rcases hz with ⟨rfl, hz⟩ | ⟨rfl, hz⟩
      · exact br_f ar_n1 (br_t rfl (h4 hz e))
      · exact br_t rfl (br_t rfl (h6 hz e))
  refine br_c (fun e => fin 1 (Or.inl ⟨rfl, hA.mp e⟩)) (fun e => fin 0 (Or.inr ⟨rfl, fun z => e (hA.mpr z)⟩))
end
end
section
/-! rewrite -/
section
variable {f_letterC f_letterR f_letterL f_letterS f_letterE f_triangleLimit f_vertexLimit f_slotCount f_draftCount f_bench f_bitsUsed f_nodeCount f_loopDepth f_boundaryCount f_numbered f_taken f_nextNumber f_viewCount : Int32} {a_draftName a_sideTable a_letterCount a_nodeName a_nodeNext a_nodePrev a_nodeGlue a_loopStack a_boundaryNext a_letters a_offsets a_lengths a_viewName a_viewOpposite : Nat → Int32} {a_packed : Nat → Int64}
/-- rewrite: the loop at the gate is replaced by what the letter leaves of it -/
theorem xw_rew {post : SX → Prop} {w nc g a far nc' t : Nat} {p2 : Int32} {NL NL' : List (List Nat)} (hst : xn_st w nc g a far NL NL' nc') (hnd : xn_nd a_nodeNext a_nodePrev nc NL) (hnc : f_nodeCount = nI nc) (hN : nc ≤ 64) (hN' : w = 0 ∨ w = 6 → nc < 64)
    (hdp : f_loopDepth = nI (NL.length - 1)) (hsk : xn_sk a_loopStack NL.tail) (hdep : NL.length < 63) (hp2 : w ≠ 0 → p2 = nI far)
    (h : ∀ nx pv st nN nG : Nat → Int32, xn_nd nx pv nc' NL' → xn_sk st NL' → (∀ x, x < nc → nN x = a_nodeName x) → (w = 0 ∨ w = 6 → nN nc = nI t) → (∀ x, x < nc → nG x = a_nodeGlue x) →
      post (f_letterC, f_letterR, f_letterL, f_letterS, f_letterE, f_triangleLimit, f_vertexLimit, f_slotCount, f_draftCount, f_bench, f_bitsUsed, nI nc', nI NL'.length, f_boundaryCount, f_numbered, f_taken, f_nextNumber, f_viewCount, a_draftName, a_sideTable, a_packed, a_letterCount, nN, nx, pv, nG, st, a_boundaryNext, a_letters, a_offsets, a_lengths, a_viewName, a_viewOpposite)) :
    wpX_rewrite post (f_letterC, f_letterR, f_letterL, f_letterS, f_letterE, f_triangleLimit, f_vertexLimit, f_slotCount, f_draftCount, f_bench, f_bitsUsed, f_nodeCount, f_loopDepth, f_boundaryCount, f_numbered, f_taken, f_nextNumber, f_viewCount, a_draftName, a_sideTable, a_packed, a_letterCount, a_nodeName, a_nodeNext, a_nodePrev, a_nodeGlue, a_loopStack, a_boundaryNext, a_letters, a_offsets, a_lengths, a_viewName, a_viewOpposite) (nI w) (nI g) p2 (nI t) := by
  obtain ⟨tl, rest, rfl, hst⟩ := hst
  obtain ⟨t1, t2, t3, t4, t5, t6, t7, t8⟩ := xn_top hnd
  rw [List.length_cons] at hdp hdep
  rw [Nat.add_sub_cancel] at hdp
  rw [List.tail_cons] at hsk
  have hg : g < 64 := Nat.lt_of_lt_of_le (t4 g (by simp)) hN
  have ha : a < 64 := Nat.lt_of_lt_of_le (t4 a (by simp)) hN
  have hst_keep : ∀ x : Int32, xn_sk (upd a_loopStack rest.length x) rest := fun x => xn_sk_fr hsk (fun i hi => pk_un (by omega))
  unfold wpX_rewrite
  dsimp only
  refine ⟨vp_in_nI hg (by decide), nm_r (e' := nI a) (by rw [nI_clamp (by omega)]; exact t6.1) ?_⟩
  rcases hst with ⟨rfl, rfl, rfl⟩ | ⟨l1, l2, rfl, hst⟩
  · have hc := hN' (Or.inl rfl)
    refine br_t rfl ?_
    refine xw_new hnc hc _ ?_
    refine xw_join hg hc ?_
    refine xw_join hc ha ?_
    refine xw_push hdp (by omega) _ ?_
    refine h _ _ _ _ _ ?_ ?_ ?_ ?_ ?_
    · exact xn_C hnd
    · exact ⟨pk_us, hst_keep _⟩
    · exact fun x hx => pk_un (by omega)
    · exact fun _ => pk_us
    · exact fun x hx => pk_un (by omega)
  · have hf : far < 64 := Nat.lt_of_lt_of_le (t4 far (by simp)) hN
    rcases hst with ⟨rfl, rfl, rfl, rfl, rfl⟩ | ⟨rfl, rfl, h2, rfl, rfl⟩ | ⟨rfl, h1, rfl, rfl, rfl⟩ | ⟨rfl, h1, h2, rfl, rfl⟩
    · refine br_f (by decide) (br_f (by decide) (br_f (by decide) (br_f (by decide) ?_)))
      rw [hnc, hdp]
      refine h _ _ _ _ _ ?_ ?_ ?_ ?_ ?_
      · exact ⟨t8, t2, t5⟩
      · exact hsk
      · exact fun _ _ => rfl
      · exact fun z => by rcases z with z | z <;> exact absurd z (by decide)
      · exact fun _ _ => rfl
    · rw [hp2 (by decide)]
      refine br_f (by decide) (br_t rfl ?_)
      refine xw_join hg hf ?_
      refine xw_push hdp (by omega) _ ?_
      rw [hnc]
      refine h _ _ _ _ _ ?_ ?_ ?_ ?_ ?_
      · exact xn_R hnd
      · exact ⟨pk_us, hst_keep _⟩
      · exact fun _ _ => rfl
      · exact fun z => by rcases z with z | z <;> exact absurd z (by decide)
      · exact fun _ _ => rfl
    · rw [hp2 (by decide)]
      refine br_f (by decide) (br_f (by decide) (br_t rfl ?_))
      refine xw_join hf ha ?_
      refine xw_push hdp (by omega) _ ?_
      rw [hnc]
      refine h _ _ _ _ _ ?_ ?_ ?_ ?_ ?_
      · exact xn_L hnd
      · exact ⟨pk_us, hst_keep _⟩
      · exact fun _ _ => rfl
      · exact fun z => by rcases z with z | z <;> exact absurd z (by decide)
      · exact fun _ _ => rfl
    · rw [hp2 (by decide)]
      have hc := hN' (Or.inr rfl)
      have t7' := t7
      rw [List.append_assoc, List.cons_append] at t7'
      obtain ⟨last, l0, e0, hlk⟩ := xn_last (xn_ch_app.mp t7').1
      have hla : last < 64 := by
        have : last ∈ a :: l1 := by rw [e0]; simp
        refine Nat.lt_of_lt_of_le (t4 last ?_) hN
        rcases List.mem_cons.mp this with z | z
        · simp [z]
        · simp [z]
      refine br_f (by decide) (br_f (by decide) (br_f (by decide) (br_t rfl ?_)))
      refine ⟨vp_in_nI hf (by decide), nm_r (e' := nI last) (by rw [nI_clamp (by omega)]; exact hlk.2) ?_⟩
      refine xw_new hnc hc _ ?_
      refine xw_join hg hf ?_
      refine xw_push hdp (by omega) _ ?_
      refine xw_join hla hc ?_
      refine xw_join hc ha ?_
      refine xw_push (dp := rest.length + 1) rfl (by omega) _ ?_
      refine h _ _ _ _ _ ?_ ?_ ?_ ?_ ?_
      · exact xn_S hnd ⟨l0, e0⟩
      · refine ⟨pk_us, ?_, ?_⟩
        · refine (pk_un ?_).trans pk_us
          show rest.length ≠ rest.length + 1
          omega
        · exact xn_sk_fr (hst_keep (nI g)) (fun i hi => pk_un (by omega))
      · exact fun x hx => pk_un (by omega)
      · exact fun _ => pk_us
      · exact fun x hx => pk_un (by omega)
end
end
section
/-! packed words: append, readBit, unpack, scanBackward -/
def xb_PK (A B : Int64) (bs : List Bool) : Prop := ∃ a b : Nat, a < 2 ^ 64 ∧ b < 2 ^ 64 ∧ A = lN a ∧ B = lN b ∧ (∀ j, j < 64 → a.testBit j = bs.getD j false) ∧ (∀ j, j < 64 → b.testBit j = bs.getD (64 + j) false)
theorem xb_lN_inj {a b : Nat} (ha : a < 2 ^ 64) (hb : b < 2 ^ 64) (h : lN a = lN b) : a = b := by
  rw [← wb_tn ha, ← wb_tn hb, h]
theorem xb_ext {a b : Nat} (ha : a < 2 ^ 64) (hb : b < 2 ^ 64) (h : ∀ j, j < 64 → a.testBit j = b.testBit j) : a = b := by
  refine Nat.eq_of_testBit_eq (fun j => ?_)
  by_cases hj : j < 64
  · exact h j hj
  · have e : 2 ^ 64 ≤ 2 ^ j := Nat.pow_le_pow_right (by decide) (by omega)
    rw [Nat.testBit_lt_two_pow (Nat.lt_of_lt_of_le ha e), Nat.testBit_lt_two_pow (Nat.lt_of_lt_of_le hb e)]
theorem xb_gd {l : List Bool} {j : Nat} (h : l.length ≤ j) : l.getD j false = false := by
  rw [List.getD_eq_getElem?_getD, List.getElem?_eq_none h]; rfl
theorem xb_PK_det {A B A' B' : Int64} {bs : List Bool} (h : xb_PK A B bs) (h' : xb_PK A' B' bs) : A = A' ∧ B = B' := by
  obtain ⟨a, b, a1, b1, rfl, rfl, a2, b2⟩ := h
  obtain ⟨a', b', a1', b1', rfl, rfl, a2', b2'⟩ := h'
  exact ⟨congrArg lN (xb_ext a1 a1' (fun j hj => (a2 j hj).trans (a2' j hj).symm)), congrArg lN (xb_ext b1 b1' (fun j hj => (b2 j hj).trans (b2' j hj).symm))⟩
theorem xb_PK_inj {A B : Int64} {bs bs' : List Bool} (h : xb_PK A B bs) (h' : xb_PK A B bs') (l1 : bs.length ≤ 128) (l2 : bs'.length ≤ 128) (j : Nat) : bs.getD j false = bs'.getD j false := by
  obtain ⟨a, b, a1, b1, e1, e2, a2, b2⟩ := h
  obtain ⟨a', b', a1', b1', e1', e2', a2', b2'⟩ := h'
  have ea := xb_lN_inj a1 a1' (e1.symm.trans e1')
  have eb := xb_lN_inj b1 b1' (e2.symm.trans e2')
  subst ea
  subst eb
  by_cases hj : j < 64
  · rw [← a2 j hj, a2' j hj]
  · by_cases hj2 : j < 128
    · have x := b2 (j - 64) (by omega)
      have y := b2' (j - 64) (by omega)
      rw [show 64 + (j - 64) = j by omega] at x y
      rw [← x, y]
    · rw [xb_gd (by omega), xb_gd (by omega)]
theorem xb_snoc (bs : List Bool) (b : Bool) (j : Nat) : (bs ++ [b]).getD j false = if j = bs.length then b else bs.getD j false := by
  rw [List.getD_eq_getElem?_getD, List.getD_eq_getElem?_getD]
  by_cases h : j < bs.length
  · rw [List.getElem?_append_left h, if_neg (by omega)]
  · rw [List.getElem?_append_right (by omega)]
    by_cases e : j = bs.length
    · rw [if_pos e, e, Nat.sub_self]; rfl
    · rw [if_neg e, List.getElem?_eq_none (by simp; omega), List.getElem?_eq_none (by omega)]
theorem xb_d : ∀ w, w < 8 → ∀ i, i < 3 → ((nI w >>> (nI i &&& 31)) &&& 1).toInt64 = lN (w / 2 ^ i % 2) := by decide +kernel
theorem xb_tb {β k j : Nat} (hb : β < 2) : (β * 2 ^ k).testBit j = (decide (j = k) && decide (β = 1)) := by
  rcases (by omega : β = 0 ∨ β = 1) with rfl | rfl
  · simp
  · rw [Nat.one_mul, Nat.testBit_two_pow]
    simp [eq_comm]
theorem xb_pow {β k : Nat} (hb : β < 2) (hk : k < 64) : β * 2 ^ k < 2 ^ 64 := by
  have h1 : β * 2 ^ k ≤ 1 * 2 ^ k := Nat.mul_le_mul_right _ (by omega)
  have h2 : 2 ^ k < 2 ^ 64 := Nat.pow_lt_pow_right (by decide) hk
  omega
theorem xb_i6 {k : Nat} (h : k < 2 ^ 31) : nI k >>> ((6 : Int32) &&& 31) = nI (k / 64) := pk_shrN h _ 6 (by decide)
theorem xb_a63 {k : Nat} (h : k < 2 ^ 31) : nI k &&& 63 = nI (k % 64) := pk_andN (by omega) 6 (by decide)
/-- the bit β goes to the place bs.length -/
theorem xb_put {pk : Nat → Int64} {bs : List Bool} {β o : Nat} (hb : β < 2) (hl : bs.length < 128) (h : xb_PK (pk o) (pk (o + 1)) bs) :
    xb_PK (vp_updL pk (o + bs.length / 64) (pk (o + bs.length / 64) ||| (lN β <<< ((nI (bs.length % 64)).toInt64 &&& 63))) o) (vp_updL pk (o + bs.length / 64) (pk (o + bs.length / 64) ||| (lN β <<< ((nI (bs.length % 64)).toInt64 &&& 63))) (o + 1)) (bs ++ [decide (β = 1)]) := by
  obtain ⟨a, b, a1, b1, e1, e2, a2, b2⟩ := h
  have hk : bs.length % 64 < 64 := by omega
  have hp := xb_pow hb hk
  rw [wb_shl β hk]
  by_cases hc : bs.length < 64
  · rw [show bs.length / 64 = 0 by omega, Nat.add_zero, pk_uLs, pk_uLn (by omega), e1, e2, wb_or a1 hp]
    refine ⟨_, b, Nat.or_lt_two_pow a1 hp, b1, rfl, rfl, fun j hj => ?_, fun j hj => ?_⟩
    · rw [Nat.testBit_or, xb_tb hb, a2 j hj, xb_snoc, Nat.mod_eq_of_lt hc]
      by_cases e : j = bs.length
      · rw [if_pos e, e, xb_gd (Nat.le_refl _)]; simp
      · rw [if_neg e]; simp [e]
    · rw [b2 j hj, xb_snoc, if_neg (by omega)]
  · rw [show bs.length / 64 = 1 by omega, pk_uLn (by omega), pk_uLs, e1, e2, wb_or b1 hp]
    refine ⟨a, _, a1, Nat.or_lt_two_pow b1 hp, rfl, rfl, fun j hj => ?_, fun j hj => ?_⟩
    · rw [a2 j hj, xb_snoc, if_neg (by omega)]
    · rw [Nat.testBit_or, xb_tb hb, b2 j hj, xb_snoc]
      by_cases e : 64 + j = bs.length
      · rw [if_pos e, e, xb_gd (Nat.le_refl _), decide_eq_true (by omega : j = bs.length % 64)]; simp
      · rw [if_neg e, decide_eq_false (by omega : ¬ j = bs.length % 64)]; simp
def xb_b (b : Bool) : Nat := if b then 1 else 0
theorem xb_div {a k : Nat} {b : Bool} (h : a.testBit k = b) : a / 2 ^ k % 2 = xb_b b := by
  rw [Nat.testBit_eq_decide_div_mod_eq] at h
  subst h
  unfold xb_b
  by_cases e : a / 2 ^ k % 2 = 1
  · simp [e]
  · simp [e]; omega
theorem xb_get {pk : Nat → Int64} {bs : List Bool} {o j : Nat} (hj : j < 128) (h : xb_PK (pk o) (pk (o + 1)) bs) :
    (((pk (o + j / 64)).toUInt64 >>> ((nI (j % 64)).toInt64.toUInt64 &&& Int64.toUInt64 63)).toInt64 &&& 1).toInt32 = nI (xb_b (bs.getD j false)) := by
  obtain ⟨a, b, a1, b1, e1, e2, a2, b2⟩ := h
  have hk : j % 64 < 64 := by omega
  by_cases hc : j < 64
  · rw [show j / 64 = 0 by omega, Nat.add_zero, e1, wb_bit a1 hk, lN_i, xb_div (a2 _ hk), Nat.mod_eq_of_lt hc]
  · rw [show j / 64 = 1 by omega, e2, wb_bit b1 hk, lN_i, xb_div (b2 _ hk), show 64 + j % 64 = j by omega]
theorem xb_PK_0 : xb_PK 0 0 [] := ⟨0, 0, by decide, by decide, rfl, rfl, fun j _ => by simp, fun j _ => by simp⟩
theorem mr_cb_app (a b : List Nat) : mr_cb (a ++ b) = mr_cb a ++ mr_cb b := by
  induction a with
  | nil => rfl
  | cons x a ih => simp [mr_cb, ih]
section
variable {f_letterC f_letterR f_letterL f_letterS f_letterE f_triangleLimit f_vertexLimit f_slotCount f_draftCount f_bench f_bitsUsed f_nodeCount f_loopDepth f_boundaryCount f_numbered f_taken f_nextNumber f_viewCount : Int32} {a_draftName a_sideTable a_letterCount a_nodeName a_nodeNext a_nodePrev a_nodeGlue a_loopStack a_boundaryNext a_letters a_offsets a_lengths a_viewName a_viewOpposite : Nat → Int32} {a_packed : Nat → Int64}
theorem xb_step {post : SX → Prop} {w i n : Nat} {bs : List Bool} (hw : w < 8) (hi : i < 3) (hl : bs.length < 128) (h : xb_PK (a_packed 8) (a_packed 9) bs)
    (hh : ∀ pk : Nat → Int64, (∀ j, j < 8 → pk j = a_packed j) → xb_PK (pk 8) (pk 9) (bs ++ [decide (w / 2 ^ i % 2 = 1)]) → wX_append_12 post (nI w) f_letterC f_letterR f_letterL f_letterS f_letterE f_triangleLimit f_vertexLimit f_slotCount f_draftCount f_bench f_nodeCount f_loopDepth f_boundaryCount f_numbered f_taken f_nextNumber f_viewCount n (nI i + (-1)) (nI (bs ++ [decide (w / 2 ^ i % 2 = 1)]).length) a_draftName a_sideTable pk a_letterCount a_nodeName a_nodeNext a_nodePrev a_nodeGlue a_loopStack a_boundaryNext a_letters a_offsets a_lengths a_viewName a_viewOpposite) :
    wX_append_12 post (nI w) f_letterC f_letterR f_letterL f_letterS f_letterE f_triangleLimit f_vertexLimit f_slotCount f_draftCount f_bench f_nodeCount f_loopDepth f_boundaryCount f_numbered f_taken f_nextNumber f_viewCount (n + 1) (nI i) (nI bs.length) a_draftName a_sideTable a_packed a_letterCount a_nodeName a_nodeNext a_nodePrev a_nodeGlue a_loopStack a_boundaryNext a_letters a_offsets a_lengths a_viewName a_viewOpposite := by
  rw [wX_append_12]
  refine br_f (nI_pos (by omega)) ?_
  rw [xb_d w hw i hi, xb_i6 (by omega), xb_a63 (by omega), show (8 : Int32) + nI (bs.length / 64) = nI (8 + bs.length / 64) from nI_add 8 _, nI_clamp (by omega)]
  refine nm_e ⟨vp_in_nI (by omega) (by decide), vp_in_nI (by omega) (by decide), nm_e (nm_r (nI_1 _) (nm_e ?_))⟩
  have := hh _ (fun j hj => pk_uLn (by omega)) (xb_put (o := 8) (by omega) hl h)
  rw [List.length_append, List.length_singleton] at this
  exact this
theorem xb_end {post : SX → Prop} {w n c : Nat} {bs : List Bool} (hc : a_letterCount 4 = nI c) (h : post (f_letterC, f_letterR, f_letterL, f_letterS, f_letterE, f_triangleLimit, f_vertexLimit, f_slotCount, f_draftCount, f_bench, nI bs.length, f_nodeCount, f_loopDepth, f_boundaryCount, f_numbered, f_taken, f_nextNumber, f_viewCount, a_draftName, a_sideTable, a_packed, upd a_letterCount 4 (nI (c + 1)), a_nodeName, a_nodeNext, a_nodePrev, a_nodeGlue, a_loopStack, a_boundaryNext, a_letters, a_offsets, a_lengths, a_viewName, a_viewOpposite)) :
    wX_append_12 post (nI w) f_letterC f_letterR f_letterL f_letterS f_letterE f_triangleLimit f_vertexLimit f_slotCount f_draftCount f_bench f_nodeCount f_loopDepth f_boundaryCount f_numbered f_taken f_nextNumber f_viewCount (n + 1) (nI 0 + (-1)) (nI bs.length) a_draftName a_sideTable a_packed a_letterCount a_nodeName a_nodeNext a_nodePrev a_nodeGlue a_loopStack a_boundaryNext a_letters a_offsets a_lengths a_viewName a_viewOpposite := by
  rw [wX_append_12]
  dsimp only
  rw [hc, nI_1]
  exact br_t (by decide) (nm_e h)
theorem xb_append {post : SX → Prop} {w c : Nat} {bs : List Bool} (hw : mr_let w) (hl : bs.length + 3 ≤ 128) (hu : f_bitsUsed = nI bs.length) (hc : a_letterCount 4 = nI c) (h : xb_PK (a_packed 8) (a_packed 9) bs)
    (hh : ∀ pk : Nat → Int64, (∀ j, j < 8 → pk j = a_packed j) → xb_PK (pk 8) (pk 9) (bs ++ mr_cd w) → post (f_letterC, f_letterR, f_letterL, f_letterS, f_letterE, f_triangleLimit, f_vertexLimit, f_slotCount, f_draftCount, f_bench, nI (bs ++ mr_cd w).length, f_nodeCount, f_loopDepth, f_boundaryCount, f_numbered, f_taken, f_nextNumber, f_viewCount, a_draftName, a_sideTable, pk, upd a_letterCount 4 (nI (c + 1)), a_nodeName, a_nodeNext, a_nodePrev, a_nodeGlue, a_loopStack, a_boundaryNext, a_letters, a_offsets, a_lengths, a_viewName, a_viewOpposite)) : wpX_append post (f_letterC, f_letterR, f_letterL, f_letterS, f_letterE, f_triangleLimit, f_vertexLimit, f_slotCount, f_draftCount, f_bench, f_bitsUsed, f_nodeCount, f_loopDepth, f_boundaryCount, f_numbered, f_taken, f_nextNumber, f_viewCount, a_draftName, a_sideTable, a_packed, a_letterCount, a_nodeName, a_nodeNext, a_nodePrev, a_nodeGlue, a_loopStack, a_boundaryNext, a_letters, a_offsets, a_lengths, a_viewName, a_viewOpposite) (nI w) := by
  subst hu
  unfold wpX_append
  dsimp only
  by_cases h0 : w = 0
  · subst h0
    refine br_t rfl ⟨2, ?_⟩
    refine xb_step (w := 0) (i := 0) (by decide) (by decide) (by omega) h (fun pk h1 h2 => ?_)
    refine xb_end hc ?_
    exact hh pk h1 h2
  · have h8 : w < 8 := by rcases hw with rfl | rfl | rfl | rfl | rfl <;> decide
    have e : mr_cd w = [decide (w / 2 ^ 2 % 2 = 1), decide (w / 2 ^ 1 % 2 = 1), decide (w / 2 ^ 0 % 2 = 1)] := by
      rcases hw with rfl | rfl | rfl | rfl | rfl
      · exact absurd rfl h0
      all_goals decide
    refine br_f (nI_ne0 (by omega) (by omega)) ⟨4, ?_⟩
    refine xb_step (w := w) (i := 2) h8 (by decide) (by omega) h (fun pk h1 h2 => ?_)
    refine xb_step (w := w) (i := 1) h8 (by decide) (by simp; omega) h2 (fun pk' h1' h2' => ?_)
    refine xb_step (w := w) (i := 0) h8 (by decide) (by simp; omega) h2' (fun pk'' h1'' h2'' => ?_)
    refine xb_end hc ?_
    have := hh pk'' (fun j hj => (h1'' j hj).trans ((h1' j hj).trans (h1 j hj)))
    rw [e] at this
    rw [List.append_assoc, List.append_assoc] at h2'' ⊢
    exact this h2''
theorem xb_read {post : Int32 → Prop} {s j : Nat} {bs : List Bool} (hs : s < 4) (hj : j < 128) (h : xb_PK (a_packed (2 * s)) (a_packed (2 * s + 1)) bs) (hh : post (nI (xb_b (bs.getD j false)))) : wpX_readBit post (f_letterC, f_letterR, f_letterL, f_letterS, f_letterE, f_triangleLimit, f_vertexLimit, f_slotCount, f_draftCount, f_bench, f_bitsUsed, f_nodeCount, f_loopDepth, f_boundaryCount, f_numbered, f_taken, f_nextNumber, f_viewCount, a_draftName, a_sideTable, a_packed, a_letterCount, a_nodeName, a_nodeNext, a_nodePrev, a_nodeGlue, a_loopStack, a_boundaryNext, a_letters, a_offsets, a_lengths, a_viewName, a_viewOpposite) (nI s) (nI j) := by
  unfold wpX_readBit
  dsimp only
  rw [ar_2, xb_i6 (by omega), xb_a63 (by omega), nI_add, nI_clamp (by omega), xb_get hj h]
  exact ⟨vp_in_nI (by omega) (by decide), hh⟩
theorem xb_unpack_loop {post : SX → Prop} {s : Nat} {ws : List Nat} (hs : s < 4) (hw : ∀ w, w ∈ ws → mr_let w) (hn : ws.length ≤ 32) (hc : a_letterCount s = nI ws.length) (h : xb_PK (a_packed (2 * s)) (a_packed (2 * s + 1)) (mr_cb ws))
    (hh : ∀ le : Nat → Int32, (∀ j, j < ws.length → le j = nI (ws.getD j 0)) → post (f_letterC, f_letterR, f_letterL, f_letterS, f_letterE, f_triangleLimit, f_vertexLimit, f_slotCount, f_draftCount, f_bench, f_bitsUsed, f_nodeCount, f_loopDepth, f_boundaryCount, f_numbered, f_taken, f_nextNumber, f_viewCount, a_draftName, a_sideTable, a_packed, a_letterCount, a_nodeName, a_nodeNext, a_nodePrev, a_nodeGlue, a_loopStack, a_boundaryNext, le, a_offsets, a_lengths, a_viewName, a_viewOpposite)) :
    ∀ w2 w1 : List Nat, ws = w1 ++ w2 → ∀ n, w2.length < n → ∀ le : Nat → Int32, (∀ j, j < w1.length → le j = nI (ws.getD j 0)) → wX_unpack_4 post (nI s) f_letterC f_letterR f_letterL f_letterS f_letterE f_triangleLimit f_vertexLimit f_slotCount f_draftCount f_bench f_bitsUsed f_nodeCount f_loopDepth f_boundaryCount f_numbered f_taken f_nextNumber f_viewCount n (nI (mr_cb w1).length) (nI w1.length) a_draftName a_sideTable a_packed a_letterCount a_nodeName a_nodeNext a_nodePrev a_nodeGlue a_loopStack a_boundaryNext le a_offsets a_lengths a_viewName a_viewOpposite := by
  intro w2
  induction w2 with
  | nil =>
    intro w1 e n hn' le hle
    obtain ⟨n, rfl⟩ : ∃ k, n = k + 1 := ⟨n - 1, by rw [List.length_nil] at hn'; omega⟩
    rw [List.append_nil] at e
    subst e
    rw [wX_unpack_4]
    dsimp only
    rw [nI_clamp (by omega), hc]
    exact ⟨vp_in_nI (by omega) (by decide), br_t (nI_le (Nat.le_refl _) (by omega)) (hh le hle)⟩
  | cons w w2 ih =>
    intro w1 e n hn' le hle
    rw [List.length_cons] at hn'
    obtain ⟨n, rfl⟩ : ∃ k, n = k + 1 := ⟨n - 1, by omega⟩
    have hlen : ws.length = w1.length + (w2.length + 1) := by rw [e, List.length_append, List.length_cons]
    have hww : mr_let w := hw w (by rw [e]; simp)
    have hcl := mr_cb_len w1
    have hwi : ws.getD w1.length 0 = w := by
      rw [e, List.getD_eq_getElem?_getD, List.getElem?_append_right (Nat.le_refl _), Nat.sub_self]; rfl
    have hbit : ∀ k, k < (mr_cd w).length → (mr_cb ws).getD ((mr_cb w1).length + k) false = (mr_cd w).getD k false := by
      intro k hk
      rw [e, mr_cb_app, show mr_cb (w :: w2) = mr_cd w ++ mr_cb w2 from rfl, List.getD_eq_getElem?_getD, List.getElem?_append_right (by omega), List.getElem?_append_left (by omega), Nat.add_sub_cancel_left, ← List.getD_eq_getElem?_getD]
    have hle' : ∀ j, j < (w1 ++ [w]).length → upd le w1.length (nI w) j = nI (ws.getD j 0) := by
      intro j hj
      rw [List.length_append, List.length_singleton] at hj
      by_cases ej : j = w1.length
      · rw [ej, pk_us, hwi]
      · rw [pk_un ej]; exact hle j (by omega)
    have hgo := ih (w1 ++ [w]) (by rw [e]; simp) n (by omega) _ hle'
    rw [mr_cb_snoc, List.length_append, List.length_append, List.length_singleton] at hgo
    rw [wX_unpack_4]
    dsimp only
    rw [nI_clamp (by omega), hc, nI_clamp (by omega)]
    refine ⟨vp_in_nI (by omega) (by decide), br_f (nI_ge (by omega) (by omega)) ?_⟩
    have hb0 := hbit 0 (by unfold mr_cd; split <;> simp)
    rw [Nat.add_zero] at hb0
    refine xb_read hs (by omega) h ?_
    rw [hb0]
    refine nm_r (nI_1 _) ?_
    rcases hww with rfl | hww
    · refine br_f (by decide) ⟨vp_in_nI (by omega) (by decide), nm_e (nm_r (nI_1 _) ?_)⟩
      exact hgo
    · have hlen3 : (mr_cd w).length = 3 := by rcases hww with rfl | rfl | rfl | rfl <;> rfl
      have e0 : nI (xb_b ((mr_cd w).getD 0 false)) = 1 := by rcases hww with rfl | rfl | rfl | rfl <;> rfl
      have e1 : 4 + 2 * nI (xb_b ((mr_cd w).getD 1 false)) + nI (xb_b ((mr_cd w).getD 2 false)) = nI w := by rcases hww with rfl | rfl | rfl | rfl <;> rfl
      have hb1 := hbit 1 (by omega)
      have hb2 := hbit 2 (by omega)
      refine br_t e0 ?_
      refine xb_read hs (by omega) h ?_
      rw [hb1, nI_1 ((mr_cb w1).length + 1)]
      refine xb_read hs (by omega) h ?_
      rw [hb2]
      refine nm_r e1 (nm_r (ar_a2 _) ⟨vp_in_nI (by omega) (by decide), nm_e (nm_r (nI_1 _) ?_)⟩)
      rw [hlen3] at hgo
      exact hgo
theorem xb_unpack {post : SX → Prop} {s : Nat} {ws : List Nat} (hs : s < 4) (hw : ∀ w, w ∈ ws → mr_let w) (hn : ws.length ≤ 32) (hc : a_letterCount s = nI ws.length) (h : xb_PK (a_packed (2 * s)) (a_packed (2 * s + 1)) (mr_cb ws))
    (hh : ∀ le : Nat → Int32, (∀ j, j < ws.length → le j = nI (ws.getD j 0)) → post (f_letterC, f_letterR, f_letterL, f_letterS, f_letterE, f_triangleLimit, f_vertexLimit, f_slotCount, f_draftCount, f_bench, f_bitsUsed, f_nodeCount, f_loopDepth, f_boundaryCount, f_numbered, f_taken, f_nextNumber, f_viewCount, a_draftName, a_sideTable, a_packed, a_letterCount, a_nodeName, a_nodeNext, a_nodePrev, a_nodeGlue, a_loopStack, a_boundaryNext, le, a_offsets, a_lengths, a_viewName, a_viewOpposite)) : wpX_unpack post (f_letterC, f_letterR, f_letterL, f_letterS, f_letterE, f_triangleLimit, f_vertexLimit, f_slotCount, f_draftCount, f_bench, f_bitsUsed, f_nodeCount, f_loopDepth, f_boundaryCount, f_numbered, f_taken, f_nextNumber, f_viewCount, a_draftName, a_sideTable, a_packed, a_letterCount, a_nodeName, a_nodeNext, a_nodePrev, a_nodeGlue, a_loopStack, a_boundaryNext, a_letters, a_offsets, a_lengths, a_viewName, a_viewOpposite) (nI s) := by
  unfold wpX_unpack
  dsimp only
  exact ⟨ws.length + 1, xb_unpack_loop hs hw hn hc h hh ws [] rfl _ (by omega) _ (fun j hj => absurd hj (Nat.not_lt_zero _))⟩
end
end
section
/-! scanBackward: the lengths of the loops from behind; the inner vertices counted -/
def xl_sk (len : Nat → Int32) : List Nat → Prop
  | [] => True
  | l :: r => len r.length = nI l ∧ xl_sk len r
theorem xl_sk_fr {len len' : Nat → Int32} {r : List Nat} (h : xl_sk len r) (hi : ∀ i, i < r.length → len' i = len i) : xl_sk len' r := by
  induction r with
  | nil => trivial
  | cons l r ih =>
    rw [List.length_cons] at hi
    exact ⟨(hi _ (by omega)).trans h.1, ih h.2 (fun i h' => hi i (by omega))⟩
def xl_ok (w : Nat) (ls : List Nat) : Prop :=
  w = 7 ∨ (w = 6 ∧ ∃ o l r, ls = o :: l :: r ∧ 1 ≤ o) ∨ (w = 0 ∧ ∃ l r, ls = l :: r ∧ 1 ≤ l) ∨ ((w = 4 ∨ w = 5) ∧ ∃ l r, ls = l :: r)
theorem xl_ok_rs {w p q t : Nat} {s s' : List (List Nat)} (h : mr_rs w p q t s s') : xl_ok w (s'.map List.length) := by
  obtain ⟨tl, rest, rfl, ⟨rfl, rfl⟩ | ⟨l1, l2, rfl, ⟨rfl, rfl, rfl, rfl⟩ | ⟨rfl, rfl, h2, rfl⟩ | ⟨rfl, h1, rfl, rfl⟩ | ⟨rfl, h1, h2, rfl⟩⟩⟩ := h
  · exact Or.inr (Or.inr (Or.inl ⟨rfl, _, _, rfl, by simp⟩))
  · exact Or.inl rfl
  · exact Or.inr (Or.inr (Or.inr ⟨Or.inl rfl, _, _, rfl⟩))
  · exact Or.inr (Or.inr (Or.inr ⟨Or.inr rfl, _, _, rfl⟩))
  · exact Or.inr (Or.inl ⟨rfl, _, _, _, rfl, by simp⟩)
theorem xl_len (ws : List Nat) : (mr_lens ws).length ≤ ws.length := by
  induction ws with
  | nil => exact Nat.le_refl _
  | cons w ws ih =>
    have h6 : ∀ ls, (mr_l6 ls).length ≤ ls.length := by
      intro ls
      match ls with
      | [] => simp [mr_l6]
      | [_] => simp [mr_l6]
      | _ :: _ :: _ => simp [mr_l6]
    have h0 : ∀ ls, (mr_l0 ls).length ≤ ls.length := by
      intro ls
      match ls with
      | [] => simp [mr_l0]
      | _ :: _ => simp [mr_l0]
    have h1 : ∀ ls, (mr_l1 ls).length ≤ ls.length := by
      intro ls
      match ls with
      | [] => simp [mr_l1]
      | _ :: _ => simp [mr_l1]
    have a6 := h6 (mr_lens ws)
    have a0 := h0 (mr_lens ws)
    have a1 := h1 (mr_lens ws)
    show (mr_ln w (mr_lens ws)).length ≤ _
    unfold mr_ln
    rw [List.length_cons]
    split
    · rw [List.length_cons]; omega
    · split
      · omega
      · split <;> omega
/-- every letter finds the loops that it needs -/
theorem xl_good {T : List (Nat × Nat × Nat)} : ∀ {ws : List Nat} {s : List (List Nat)} {v e : Nat}, mr_nr T ws s v [] e → ∀ i, i < ws.length → xl_ok (ws.getD i 0) (mr_lens (ws.drop (i + 1))) := by
  induction T with
  | nil =>
    intro ws s v e h
    cases ws with
    | nil => intro i hi; exact absurd hi (Nat.not_lt_zero _)
    | cons w ws => exact h.elim
  | cons τ T ih =>
    intro ws s v e h
    cases ws with
    | nil => exact h.elim
    | cons w ws =>
      obtain ⟨s1, v1, h1, h2, h⟩ := h
      intro i hi
      cases i with
      | zero =>
        show xl_ok w (mr_lens ws)
        rw [← mr_nr_lens h]
        exact xl_ok_rs h1
      | succ i =>
        rw [List.length_cons] at hi
        exact ih h i (by omega)
theorem xl_drop {ws : List Nat} {i : Nat} (h : i < ws.length) : ws.drop i = ws.getD i 0 :: ws.drop (i + 1) := by
  rw [List.drop_eq_getElem_cons h, List.getD_eq_getElem?_getD, List.getElem?_eq_getElem h]; rfl
section
variable {f_letterC f_letterR f_letterL f_letterS f_letterE f_triangleLimit f_vertexLimit f_slotCount f_draftCount f_bench f_bitsUsed f_nodeCount f_loopDepth f_boundaryCount f_numbered f_taken f_nextNumber f_viewCount : Int32} {a_draftName a_sideTable a_letterCount a_nodeName a_nodeNext a_nodePrev a_nodeGlue a_loopStack a_boundaryNext a_letters a_offsets a_lengths a_viewName a_viewOpposite : Nat → Int32} {a_packed : Nat → Int64}
theorem xl_scan_loop {post : Int32 → SX → Prop} {ws : List Nat} (hn : ws.length ≤ 32) (hg : ∀ i, i < ws.length → xl_ok (ws.getD i 0) (mr_lens (ws.drop (i + 1)))) (hl : ∀ j, j < ws.length → a_letters j = nI (ws.getD j 0))
    (hh : ∀ off len : Nat → Int32, (∀ j, j < ws.length → ws.getD j 0 = 6 → off j = nI ((mr_lens (ws.drop (j + 1))).headD 0)) → xl_sk len (mr_lens ws) → post (len 0) (f_letterC, f_letterR, f_letterL, f_letterS, f_letterE, f_triangleLimit, f_vertexLimit, f_slotCount, f_draftCount, f_bench, f_bitsUsed, f_nodeCount, f_loopDepth, f_boundaryCount, f_numbered, f_taken, f_nextNumber, f_viewCount, a_draftName, a_sideTable, a_packed, a_letterCount, a_nodeName, a_nodeNext, a_nodePrev, a_nodeGlue, a_loopStack, a_boundaryNext, a_letters, off, len, a_viewName, a_viewOpposite)) :
    ∀ i, i ≤ ws.length → ∀ n, i < n → ∀ off len : Nat → Int32, (∀ j, i ≤ j → j < ws.length → ws.getD j 0 = 6 → off j = nI ((mr_lens (ws.drop (j + 1))).headD 0)) → xl_sk len (mr_lens (ws.drop i)) → ∀ k, k = (mr_lens (ws.drop i)).length →
      wX_scanBackward_6 post f_letterC f_letterR f_letterL f_letterS f_letterE f_triangleLimit f_vertexLimit f_slotCount f_draftCount f_bench f_bitsUsed f_nodeCount f_loopDepth f_boundaryCount f_numbered f_taken f_nextNumber f_viewCount n (nI k) (nI i + (-1)) a_draftName a_sideTable a_packed a_letterCount a_nodeName a_nodeNext a_nodePrev a_nodeGlue a_loopStack a_boundaryNext a_letters off len a_viewName a_viewOpposite := by
  intro i
  induction i with
  | zero =>
    intro _ n hn' off len ho hs k hk
    obtain ⟨n, rfl⟩ : ∃ k, n = k + 1 := ⟨n - 1, by omega⟩
    rw [wX_scanBackward_6]
    exact br_t (by decide) (hh off len (fun j hj => ho j (by omega) hj) hs)
  | succ i ih =>
    intro hi n hn' off len ho hs k hk
    subst hk
    obtain ⟨n, rfl⟩ : ∃ k, n = k + 1 := ⟨n - 1, by omega⟩
    have hL := xl_len (ws.drop (i + 1))
    rw [List.length_drop] at hL
    have hgi := hg i (by omega)
    have hdr := xl_drop (ws := ws) (i := i) (by omega)
    have go : ∀ (off' len' : Nat → Int32) (k : Nat), (∀ j, i ≤ j → j < ws.length → ws.getD j 0 = 6 → off' j = nI ((mr_lens (ws.drop (j + 1))).headD 0)) → xl_sk len' (mr_lens (ws.drop i)) → k = (mr_lens (ws.drop i)).length →
        wX_scanBackward_6 post f_letterC f_letterR f_letterL f_letterS f_letterE f_triangleLimit f_vertexLimit f_slotCount f_draftCount f_bench f_bitsUsed f_nodeCount f_loopDepth f_boundaryCount f_numbered f_taken f_nextNumber f_viewCount n (nI k) (nI i + (-1)) a_draftName a_sideTable a_packed a_letterCount a_nodeName a_nodeNext a_nodePrev a_nodeGlue a_loopStack a_boundaryNext a_letters off' len' a_viewName a_viewOpposite := by
      intro off' len' k h1 h2 h3
      exact ih (by omega) n (by omega) off' len' h1 h2 k h3
    have ho' : ws.getD i 0 ≠ 6 → ∀ j, i ≤ j → j < ws.length → ws.getD j 0 = 6 → off j = nI ((mr_lens (ws.drop (j + 1))).headD 0) := by
      intro h6 j h1 h2 h3
      by_cases e : j = i
      · rw [e] at h3; exact absurd h3 h6
      · exact ho j (by omega) h2 h3
    rw [hdr] at go
    rw [pk_m1, wX_scanBackward_6]
    dsimp only
    rw [nI_clamp (by omega : i < 2 ^ 31), hl i (by omega)]
    refine br_f (nI_pos (by omega)) ⟨vp_in_nI (by omega) (by decide), nm_e ?_⟩
    generalize ws.getD i 0 = w at *
    generalize hwt : ws.drop (i + 1) = wt at *
    rcases hgi with rfl | ⟨rfl, o, l, r, e, ho1⟩ | ⟨rfl, l, r, e, hl1⟩ | ⟨hw, l, r, e⟩
    · refine br_t rfl ⟨vp_in_nI (by omega) (by decide), ?_⟩
      rw [nI_clamp (by omega)]
      refine nm_e (nm_r (nI_1 _) (nm_e ?_))
      refine go _ _ _ (ho' (by decide)) ?_ ?_
      · exact ⟨pk_us, xl_sk_fr hs (fun j hj => pk_un (by omega))⟩
      · rfl
    · rw [e] at hs hL ⊢
      obtain ⟨s1, s2, s3⟩ := hs
      rw [List.length_cons] at s1
      simp only [List.length_cons] at hL
      refine br_f (by decide) (br_t rfl ?_)
      rw [List.length_cons, List.length_cons]
      refine nm_r (pk_m1 _) ?_
      rw [nI_clamp (by omega), s1, nI_pred, nI_clamp (by omega), s2]
      refine ⟨vp_in_nI (by omega) (by decide), vp_in_nI (by omega) (by decide), nm_e ⟨vp_in_nI (by omega) (by decide), vp_in_nI (by omega) (by decide), vp_in_nI (by omega) (by decide), ?_⟩⟩
      rw [pk_us, ar_s1 ho1, nI_add]
      refine nm_e (nm_e ?_)
      refine go _ _ _ ?_ ?_ ?_
      · intro j h1 h2 h3
        by_cases ej : j = i
        · subst ej
          rw [pk_us, hwt, e]
          rfl
        · rw [pk_un ej]
          exact ho j (by omega) h2 h3
      · show xl_sk _ (mr_l6 (mr_lens wt))
        rw [e]
        exact ⟨pk_us, xl_sk_fr s3 (fun j hj => pk_un (by omega))⟩
      · show _ = (mr_l6 (mr_lens wt)).length
        rw [e]
        rfl
    · rw [e] at hs hL ⊢
      obtain ⟨s1, s2⟩ := hs
      simp only [List.length_cons] at hL
      refine br_f (by decide) (br_f (by decide) ?_)
      rw [List.length_cons, nI_pred, nI_clamp (by omega), s1, ar_m1 hl1]
      refine ⟨vp_in_nI (by omega) (by decide), br_t rfl ⟨vp_in_nI (by omega) (by decide), nm_e (nm_e ?_)⟩⟩
      refine go _ _ _ (ho' (by decide)) ?_ ?_
      · show xl_sk _ (mr_l0 (mr_lens wt))
        rw [e]
        exact ⟨pk_us, xl_sk_fr s2 (fun j hj => pk_un (by omega))⟩
      · show _ = (mr_l0 (mr_lens wt)).length
        rw [e]
        rfl
    · rw [e] at hs hL ⊢
      obtain ⟨s1, s2⟩ := hs
      simp only [List.length_cons] at hL
      have w7 : ¬ nI w = 7 := by rcases hw with rfl | rfl <;> decide
      have w6 : ¬ nI w = 6 := by rcases hw with rfl | rfl <;> decide
      have w0 : ¬ nI w = 0 := by rcases hw with rfl | rfl <;> decide
      have w6' : w ≠ 6 := by rcases hw with rfl | rfl <;> decide
      have hln : mr_lens (w :: wt) = (l + 1) :: r := by
        show mr_ln w (mr_lens wt) = _
        rw [e]
        rcases hw with rfl | rfl <;> rfl
      refine br_f w7 (br_f w6 ?_)
      rw [List.length_cons, nI_pred, nI_clamp (by omega), s1, nI_1 l]
      refine ⟨vp_in_nI (by omega) (by decide), br_f w0 ⟨vp_in_nI (by omega) (by decide), nm_e (nm_e ?_)⟩⟩
      refine go _ _ _ (ho' w6') ?_ ?_
      · rw [hln]
        exact ⟨pk_us, xl_sk_fr s2 (fun j hj => pk_un (by omega))⟩
      · rw [hln]
        rfl
theorem xl_scan {post : Int32 → SX → Prop} {ws : List Nat} (hn : ws.length ≤ 32) (h1 : 1 ≤ ws.length) (hg : ∀ i, i < ws.length → xl_ok (ws.getD i 0) (mr_lens (ws.drop (i + 1)))) (hl : ∀ j, j < ws.length → a_letters j = nI (ws.getD j 0)) {m : Nat} (hm : mr_lens ws = [m])
    (hh : ∀ off len : Nat → Int32, (∀ j, j < ws.length → ws.getD j 0 = 6 → off j = nI ((mr_lens (ws.drop (j + 1))).headD 0)) → post (nI m) (f_letterC, f_letterR, f_letterL, f_letterS, f_letterE, f_triangleLimit, f_vertexLimit, f_slotCount, f_draftCount, f_bench, f_bitsUsed, f_nodeCount, f_loopDepth, f_boundaryCount, f_numbered, f_taken, f_nextNumber, f_viewCount, a_draftName, a_sideTable, a_packed, a_letterCount, a_nodeName, a_nodeNext, a_nodePrev, a_nodeGlue, a_loopStack, a_boundaryNext, a_letters, off, len, a_viewName, a_viewOpposite)) : wpX_scanBackward post (f_letterC, f_letterR, f_letterL, f_letterS, f_letterE, f_triangleLimit, f_vertexLimit, f_slotCount, f_draftCount, f_bench, f_bitsUsed, f_nodeCount, f_loopDepth, f_boundaryCount, f_numbered, f_taken, f_nextNumber, f_viewCount, a_draftName, a_sideTable, a_packed, a_letterCount, a_nodeName, a_nodeNext, a_nodePrev, a_nodeGlue, a_loopStack, a_boundaryNext, a_letters, a_offsets, a_lengths, a_viewName, a_viewOpposite) (nI ws.length) := by
  unfold wpX_scanBackward
  dsimp only
  refine nm_r (e' := nI ws.length + (-1)) (by rw [ar_m1 h1, ar_s1 h1]) ⟨ws.length + 1, ?_⟩
  refine xl_scan_loop hn hg hl (fun off len ho hs => ?_) ws.length (Nat.le_refl _) (ws.length + 1) (by omega) _ _ (fun j h1 h2 => absurd h2 (by omega)) ?_ 0 ?_
  · rw [hm] at hs
    have e : len 0 = nI m := hs.1
    rw [e]
    exact hh off len ho
  · rw [List.drop_length]; exact trivial
  · rw [List.drop_length]; rfl
theorem xl_meas {post : Int32 → SX → Prop} {ws : List Nat} {a : Nat} (hn : ws.length ≤ 32) (hw : ∀ w, w ∈ ws → mr_let w) (hl : ∀ j, j < ws.length → a_letters j = nI (ws.getD j 0)) (hh : post (nI (a + ws.count 0)) (f_letterC, f_letterR, f_letterL, f_letterS, f_letterE, f_triangleLimit, f_vertexLimit, f_slotCount, f_draftCount, f_bench, f_bitsUsed, f_nodeCount, f_loopDepth, f_boundaryCount, f_numbered, f_taken, f_nextNumber, f_viewCount, a_draftName, a_sideTable, a_packed, a_letterCount, a_nodeName, a_nodeNext, a_nodePrev, a_nodeGlue, a_loopStack, a_boundaryNext, a_letters, a_offsets, a_lengths, a_viewName, a_viewOpposite)) :
    ∀ w2 w1 : List Nat, ws = w1 ++ w2 → ∀ n, w2.length < n → wX_measure_65 post (nI ws.length) f_letterC f_letterR f_letterL f_letterS f_letterE f_triangleLimit f_vertexLimit f_slotCount f_draftCount f_bench f_bitsUsed f_nodeCount f_loopDepth f_boundaryCount f_numbered f_taken f_nextNumber f_viewCount a_draftName a_sideTable a_packed a_letterCount a_nodeName a_nodeNext a_nodePrev a_nodeGlue a_loopStack a_boundaryNext a_letters a_offsets a_lengths a_viewName a_viewOpposite n (nI (a + w1.count 0)) (nI w1.length) := by
  intro w2
  induction w2 with
  | nil =>
    intro w1 e n hn'
    obtain ⟨n, rfl⟩ : ∃ k, n = k + 1 := ⟨n - 1, by rw [List.length_nil] at hn'; omega⟩
    rw [List.append_nil] at e
    subst e
    rw [wX_measure_65]
    exact br_t (nI_le (Nat.le_refl _) (by omega)) hh
  | cons w w2 ih =>
    intro w1 e n hn'
    rw [List.length_cons] at hn'
    obtain ⟨n, rfl⟩ : ∃ k, n = k + 1 := ⟨n - 1, by omega⟩
    have hlen : ws.length = w1.length + (w2.length + 1) := by rw [e, List.length_append, List.length_cons]
    have hww : mr_let w := hw w (by rw [e]; simp)
    have hwi : ws.getD w1.length 0 = w := by
      rw [e, List.getD_eq_getElem?_getD, List.getElem?_append_right (Nat.le_refl _), Nat.sub_self]; rfl
    have hgo := ih (w1 ++ [w]) (by rw [e]; simp) n (by omega)
    rw [List.length_append, List.length_singleton, List.count_append] at hgo
    rw [wX_measure_65]
    dsimp only
    rw [nI_clamp (by omega), hl _ (by omega), hwi]
    refine br_f (nI_ge (by omega) (by omega)) ⟨vp_in_nI (by omega) (by decide), ?_⟩
    by_cases h0 : w = 0
    · subst h0
      refine br_t rfl (nm_r (nI_1 _) (nm_r (nI_1 _) ?_))
      exact hgo
    · have : [w].count 0 = 0 := List.count_eq_zero_of_not_mem (by simp; omega)
      rw [this, Nat.add_zero] at hgo
      have h8 : w < 8 := by rcases hww with rfl | rfl | rfl | rfl | rfl <;> decide
      refine br_f (nI_ne0 (by omega) (by omega)) (nm_r (e' := nI (a + w1.count 0)) (nI_add _ 0) (nm_r (nI_1 _) ?_))
      exact hgo
end
end
section
/-! bit sets; collectBoundary and layFirstLoop -/
def xq_set (m : Int32) (Q : Nat → Prop) : Prop := ∀ x, x < 32 → (bt m x = true ↔ Q x)
theorem xq_bit {l i : Nat} (hl : l < 32) (hi : i < 32) : bt ((1 : Int32) <<< (nI l &&& 31)) i = decide (i = l) := by
  unfold bt
  rw [nf_sh l hl, BitVec.getLsbD_twoPow]
  by_cases e : i = l
  · subst e; simp [hi]
  · have : ¬ l = i := fun z => e z.symm
    simp [e, this]
theorem xq_or {m : Int32} {Q : Nat → Prop} {l : Nat} (h : xq_set m Q) (hl : l < 32) : xq_set (m ||| ((1 : Int32) <<< (nI l &&& 31))) (fun x => Q x ∨ x = l) := by
  intro x hx
  rw [b_or, xq_bit hl hx, Bool.or_eq_true, h x hx, decide_eq_true_eq]
theorem xq_test {m : Int32} {Q : Nat → Prop} {l : Nat} (h : xq_set m Q) (hl : l < 32) : (m &&& ((1 : Int32) <<< (nI l &&& 31))) = 0 ↔ ¬ Q l := by
  constructor
  · intro e hq
    have := (h l hl).mpr hq
    have e2 : bt (m &&& ((1 : Int32) <<< (nI l &&& 31))) l = bt 0 l := by rw [e]
    rw [b_and, xq_bit hl hl, this, b_0] at e2
    simp at e2
  · intro hq
    refine b_ext (fun i hi => ?_)
    rw [b_and, xq_bit hl hi, b_0]
    by_cases e : i = l
    · subst e
      have : ¬ bt m i = true := fun z => hq ((h i hi).mp z)
      rw [ts_nt this]; rfl
    · simp [e]
theorem xq_0 : xq_set 0 (fun _ => False) := by
  intro x hx
  rw [b_0]
  simp
theorem xq_iff {m : Int32} {Q Q' : Nat → Prop} (h : xq_set m Q) (e : ∀ x, x < 32 → (Q x ↔ Q' x)) : xq_set m Q' := fun x hx => (h x hx).trans (e x hx)
def xc_b (n : Nat) (d : Nat → Nat) (c : Nat) : Prop := ¬ md_S n d (d (mq_nx c)) (d c)
/-- what collectBoundary has noted when it has seen the corners below c -/
def xc_I (n : Nat) (d : Nat → Nat) (c : Nat) (bn : Nat → Int32) : Prop :=
  (∀ x, x < 32 → ((∃ c', c' < c ∧ xc_b n d c' ∧ d c' = x ∧ bn x = nI (d (mq_nx c'))) ∨ ((∀ c', c' < c → xc_b n d c' → d c' ≠ x) ∧ bn x = -1))) ∧
  (∀ c1 c2, c1 < c → c2 < c → xc_b n d c1 → xc_b n d c2 → d c1 = d c2 → c1 = c2)
theorem xc_B {n : Nat} {d : Nat → Nat} {c : Nat} (hc : c < 3 * n) (h : xc_b n d c) : md_B n d (d c) (d (mq_nx c)) := ⟨⟨c, hc, rfl, rfl⟩, h⟩
theorem xc_fin {n : Nat} {d : Nat → Nat} {bn : Nat → Int32} (h : xc_I n d (3 * n) bn) :
    md_One n d ∧ (∀ x, x < 32 → ((∃ y, md_B n d x y ∧ bn x = nI y) ∨ ((∀ y, ¬ md_B n d x y) ∧ bn x = -1))) := by
  constructor
  · rintro x y y' ⟨⟨c, hc, rfl, rfl⟩, hb⟩ ⟨⟨c', hc', e, rfl⟩, hb'⟩
    have := h.2 c c' hc hc' hb (by unfold xc_b; rw [e]; exact hb') e.symm
    rw [this]
  · intro x hx
    rcases h.1 x hx with ⟨c', hc', hb, rfl, e⟩ | ⟨hn, e⟩
    · exact Or.inl ⟨_, xc_B hc' hb, e⟩
    · refine Or.inr ⟨?_, e⟩
      rintro y ⟨⟨c, hc, rfl, rfl⟩, hb⟩
      exact hn c hc hb rfl
section
variable {f_letterC f_letterR f_letterL f_letterS f_letterE f_triangleLimit f_vertexLimit f_slotCount f_draftCount f_bench f_bitsUsed f_nodeCount f_loopDepth f_boundaryCount f_numbered f_taken f_nextNumber f_viewCount : Int32} {a_draftName a_sideTable a_letterCount a_nodeName a_nodeNext a_nodePrev a_nodeGlue a_loopStack a_boundaryNext a_letters a_offsets a_lengths a_viewName a_viewOpposite : Nat → Int32} {a_packed : Nat → Int64}
theorem xc_col_loop {post : Int32 → SX → Prop} {n V : Nat} {d : Nat → Nat} (hV : f_vertexLimit = nI V) (hV2 : V ≤ 32) (hn : n ≤ 32) (hd : md_Ok n V d) (ht : xd_Tab n V d a_sideTable) (hc : f_draftCount = nI n) (ha : ∀ c, c < 96 → a_draftName c = nI (d c))
    (h0 : ¬ md_One n d → ∀ (bn : Nat → Int32) (k : Int32), post 0 (f_letterC, f_letterR, f_letterL, f_letterS, f_letterE, f_triangleLimit, f_vertexLimit, f_slotCount, f_draftCount, f_bench, f_bitsUsed, f_nodeCount, f_loopDepth, k, f_numbered, f_taken, f_nextNumber, f_viewCount, a_draftName, a_sideTable, a_packed, a_letterCount, a_nodeName, a_nodeNext, a_nodePrev, a_nodeGlue, a_loopStack, bn, a_letters, a_offsets, a_lengths, a_viewName, a_viewOpposite))
    (h1 : md_One n d → ∀ (bn : Nat → Int32), (∀ x, x < 32 → ((∃ y, md_B n d x y ∧ bn x = nI y) ∨ ((∀ y, ¬ md_B n d x y) ∧ bn x = -1))) → post 1 (f_letterC, f_letterR, f_letterL, f_letterS, f_letterE, f_triangleLimit, f_vertexLimit, f_slotCount, f_draftCount, f_bench, f_bitsUsed, f_nodeCount, f_loopDepth, nI (mb_cn (fun x => ∃ y, md_B n d x y) 32), f_numbered, f_taken, f_nextNumber, f_viewCount, a_draftName, a_sideTable, a_packed, a_letterCount, a_nodeName, a_nodeNext, a_nodePrev, a_nodeGlue, a_loopStack, bn, a_letters, a_offsets, a_lengths, a_viewName, a_viewOpposite)) :
    ∀ m c, 3 * n - c < m → c ≤ 3 * n → ∀ (bn : Nat → Int32), xc_I n d c bn →
      wX_collectBoundary_28 post f_letterC f_letterR f_letterL f_letterS f_letterE f_triangleLimit f_vertexLimit f_slotCount f_draftCount f_bench f_bitsUsed f_nodeCount f_loopDepth f_numbered f_taken f_nextNumber f_viewCount m (nI c) (nI (mb_cn (fun x => ∃ c', c' < c ∧ xc_b n d c' ∧ d c' = x) 32)) a_draftName a_sideTable a_packed a_letterCount a_nodeName a_nodeNext a_nodePrev a_nodeGlue a_loopStack bn a_letters a_offsets a_lengths a_viewName a_viewOpposite := by
  subst hc
  intro m
  induction m with
  | zero => intro c hm; omega
  | succ m ih =>
    intro c hm hc bn hI
    rw [wX_collectBoundary_28]
    dsimp only
    rw [ar_3]
    refine pk_le (3 * n) c (fun hle => ?_) (fun hlt => ?_)
    · have e : c = 3 * n := by omega
      subst e
      obtain ⟨f1, f2⟩ := xc_fin hI
      have e2 : mb_cn (fun x => ∃ c', c' < 3 * n ∧ xc_b n d c' ∧ d c' = x) 32 = mb_cn (fun x => ∃ y, md_B n d x y) 32 := by
        refine mb_cn_congr (fun x _ => ⟨?_, ?_⟩)
        · rintro ⟨c', a, b, rfl⟩; exact ⟨_, xc_B a b⟩
        · rintro ⟨y, ⟨⟨c', a, rfl, rfl⟩, b⟩⟩; exact ⟨c', a, b, rfl⟩
      rw [e2]
      exact h1 f1 bn f2
    · have hx : mq_nx c < 3 * n := mq_lt hlt
      have dl := hd.1 c hlt
      have dl' := hd.1 _ hx
      rw [nI_clamp (by omega), ha c (by omega)]
      refine ⟨vp_in_nI (by omega) (by decide), nm_e ?_⟩
      refine xa_next (by omega) ⟨vp_in_nI (by omega) (by decide), ?_⟩
      rw [nI_clamp (by omega), ha _ (by omega)]
      refine nm_e ?_
      refine xa_side_at (d := d) hV hV2 hn hd ht (by omega) (by omega) (fun c' hc' e1 e2 => ?_) (fun hs => ?_)
      · have hs : md_S n d (d (mq_nx c)) (d c) := ⟨c', hc', e1, e2⟩
        refine br_t (nI_pos' (by omega)) (nm_r (nI_1 c) ?_)
        have ek : mb_cn (fun x => ∃ c', c' < c ∧ xc_b n d c' ∧ d c' = x) 32 = mb_cn (fun x => ∃ c', c' < c + 1 ∧ xc_b n d c' ∧ d c' = x) 32 := by
          refine mb_cn_congr (fun x _ => ⟨?_, ?_⟩)
          · rintro ⟨c', a, b⟩; exact ⟨c', by omega, b⟩
          · rintro ⟨c', a, b, e⟩
            refine ⟨c', ?_, b, e⟩
            by_cases e' : c' = c
            · subst e'; exact absurd hs b
            · omega
        rw [ek]
        refine ih (c + 1) (by omega) (by omega) bn ⟨fun x hx => ?_, fun c1 c2 a1 a2 b1 b2 e => ?_⟩
        · rcases hI.1 x hx with ⟨c', a, b⟩ | ⟨a, b⟩
          · exact Or.inl ⟨c', by omega, b⟩
          · refine Or.inr ⟨fun c' a' b' => ?_, b⟩
            by_cases e' : c' = c
            · subst e'; exact absurd hs b'
            · exact a c' (by omega) b'
        · have n1 : c1 ≠ c := fun z => b1 (by rw [z]; exact hs)
          have n2 : c2 ≠ c := fun z => b2 (by rw [z]; exact hs)
          exact hI.2 c1 c2 (by omega) (by omega) b1 b2 e
      · refine br_f ar_ng ⟨vp_in_nI (by omega) (by decide), ?_⟩
        rw [nI_clamp (by omega)]
        rcases hI.1 (d c) (by omega) with ⟨c', a, b, e, e2⟩ | ⟨a, b⟩
        · rw [e2]
          have dl2 := hd.1 _ (mq_lt (by omega : c' < 3 * n))
          refine br_f (nI_pos (by omega)) (h0 (fun hone => ?_) _ _)
          have := hone (d c) _ _ (xc_B hlt hs) (by rw [← e]; exact xc_B (by omega) b)
          have := hd.2.2 c c' hlt (by omega) e.symm this
          omega
        · rw [b]
          refine br_t ar_lg ⟨vp_in_nI (by omega) (by decide), nm_e (nm_r (nI_1 _) (nm_r (nI_1 c) ?_))⟩
          have ek : mb_cn (fun x => ∃ c', c' < c ∧ xc_b n d c' ∧ d c' = x) 32 + 1 = mb_cn (fun x => ∃ c', c' < c + 1 ∧ xc_b n d c' ∧ d c' = x) 32 := by
            refine (mb_cn_put (k := d c) (by omega) ?_ (fun x _ => ⟨?_, ?_⟩)).symm
            · rintro ⟨c', a1, a2, a3⟩; exact a c' a1 a2 a3
            · rintro ⟨c', a1, a2, a3⟩
              by_cases e' : c' = c
              · subst e'; exact Or.inr a3.symm
              · exact Or.inl ⟨c', by omega, a2, a3⟩
            · rintro (⟨c', a1, a2, a3⟩ | rfl)
              · exact ⟨c', by omega, a2, a3⟩
              · exact ⟨c, by omega, hs, rfl⟩
          rw [ek]
          refine ih (c + 1) (by omega) (by omega) _ ⟨fun x hx => ?_, fun c1 c2 a1 a2 b1 b2 e => ?_⟩
          · by_cases ex : x = d c
            · subst ex
              exact Or.inl ⟨c, by omega, hs, rfl, pk_us⟩
            · rw [pk_un ex]
              rcases hI.1 x hx with ⟨c', a1, b1⟩ | ⟨a1, b1⟩
              · exact Or.inl ⟨c', by omega, b1⟩
              · refine Or.inr ⟨fun c' a' b' => ?_, b1⟩
                by_cases e' : c' = c
                · subst e'; exact fun z => ex z.symm
                · exact a1 c' (by omega) b'
          · by_cases e1 : c1 = c
            · by_cases e2 : c2 = c
              · omega
              · exact absurd (e.symm.trans (by rw [e1])) (a c2 (by omega) b2)
            · by_cases e2 : c2 = c
              · exact absurd (e.trans (by rw [e2])) (a c1 (by omega) b1)
              · exact hI.2 c1 c2 (by omega) (by omega) b1 b2 e
theorem xc_clr_loop {post : Int32 → SX → Prop} (h : ∀ bn : Nat → Int32, (∀ x, x < 32 → bn x = -1) → ∃ m, wX_collectBoundary_28 post f_letterC f_letterR f_letterL f_letterS f_letterE f_triangleLimit f_vertexLimit f_slotCount f_draftCount f_bench f_bitsUsed f_nodeCount f_loopDepth f_numbered f_taken f_nextNumber f_viewCount m 0 0 a_draftName a_sideTable a_packed a_letterCount a_nodeName a_nodeNext a_nodePrev a_nodeGlue a_loopStack bn a_letters a_offsets a_lengths a_viewName a_viewOpposite) :
    ∀ m i, 32 - i < m → i ≤ 32 → ∀ bn : Nat → Int32, (∀ x, x < i → bn x = -1) → wX_collectBoundary_2 post f_letterC f_letterR f_letterL f_letterS f_letterE f_triangleLimit f_vertexLimit f_slotCount f_draftCount f_bench f_bitsUsed f_nodeCount f_loopDepth f_boundaryCount f_numbered f_taken f_nextNumber f_viewCount m (nI i) a_draftName a_sideTable a_packed a_letterCount a_nodeName a_nodeNext a_nodePrev a_nodeGlue a_loopStack bn a_letters a_offsets a_lengths a_viewName a_viewOpposite := by
  intro m
  induction m with
  | zero => intro i hm; omega
  | succ m ih =>
    intro i hm hi bn hb
    rw [wX_collectBoundary_2]
    dsimp only
    refine pk_le 32 i (fun hle => ?_) (fun hlt => ?_)
    · exact h bn (fun x hx => hb x (by omega))
    · refine ⟨vp_in_nI (by omega) (by decide), ?_⟩
      rw [nI_clamp (by omega)]
      refine nm_e (nm_r (nI_1 i) (ih (i + 1) (by omega) (by omega) _ (fun x hx => ?_)))
      by_cases e : x = i
      · rw [e, pk_us]
      · rw [pk_un e]; exact hb x (by omega)
theorem xc_collect {post : Int32 → SX → Prop} {n V : Nat} {d : Nat → Nat} (hV : f_vertexLimit = nI V) (hV2 : V ≤ 32) (hn : n ≤ 32) (hd : md_Ok n V d) (ht : xd_Tab n V d a_sideTable) (hc : f_draftCount = nI n) (ha : ∀ c, c < 96 → a_draftName c = nI (d c))
    (h0 : ¬ md_One n d → ∀ (bn : Nat → Int32) (k : Int32), post 0 (f_letterC, f_letterR, f_letterL, f_letterS, f_letterE, f_triangleLimit, f_vertexLimit, f_slotCount, f_draftCount, f_bench, f_bitsUsed, f_nodeCount, f_loopDepth, k, f_numbered, f_taken, f_nextNumber, f_viewCount, a_draftName, a_sideTable, a_packed, a_letterCount, a_nodeName, a_nodeNext, a_nodePrev, a_nodeGlue, a_loopStack, bn, a_letters, a_offsets, a_lengths, a_viewName, a_viewOpposite))
    (h1 : md_One n d → ∀ (bn : Nat → Int32), (∀ x, x < 32 → ((∃ y, md_B n d x y ∧ bn x = nI y) ∨ ((∀ y, ¬ md_B n d x y) ∧ bn x = -1))) → post 1 (f_letterC, f_letterR, f_letterL, f_letterS, f_letterE, f_triangleLimit, f_vertexLimit, f_slotCount, f_draftCount, f_bench, f_bitsUsed, f_nodeCount, f_loopDepth, nI (mb_cn (fun x => ∃ y, md_B n d x y) 32), f_numbered, f_taken, f_nextNumber, f_viewCount, a_draftName, a_sideTable, a_packed, a_letterCount, a_nodeName, a_nodeNext, a_nodePrev, a_nodeGlue, a_loopStack, bn, a_letters, a_offsets, a_lengths, a_viewName, a_viewOpposite)) :
    wpX_collectBoundary post (f_letterC, f_letterR, f_letterL, f_letterS, f_letterE, f_triangleLimit, f_vertexLimit, f_slotCount, f_draftCount, f_bench, f_bitsUsed, f_nodeCount, f_loopDepth, f_boundaryCount, f_numbered, f_taken, f_nextNumber, f_viewCount, a_draftName, a_sideTable, a_packed, a_letterCount, a_nodeName, a_nodeNext, a_nodePrev, a_nodeGlue, a_loopStack, a_boundaryNext, a_letters, a_offsets, a_lengths, a_viewName, a_viewOpposite) := by
  unfold wpX_collectBoundary
  dsimp only
  refine ⟨33, xc_clr_loop (fun bn hb => ⟨3 * n + 1, ?_⟩) 33 0 (by omega) (by omega) _ (fun x hx => absurd hx (Nat.not_lt_zero _))⟩
  have e : mb_cn (fun x => ∃ c', c' < 0 ∧ xc_b n d c' ∧ d c' = x) 32 = 0 := by
    refine Nat.eq_zero_of_not_pos (fun hp => ?_)
    obtain ⟨x, _, c', hc', _⟩ := mb_cn_pos hp
    omega
  have := xc_col_loop (m := 3 * n + 1) hV hV2 hn hd ht hc ha h0 h1 0
  have := this (by omega) (by omega) bn ⟨fun x hx => Or.inr ⟨fun c' hc' => absurd hc' (Nat.not_lt_zero _), hb x hx⟩, fun c1 _ a1 => absurd a1 (Nat.not_lt_zero _)⟩
  rw [e] at this
  exact this
end
end
section
/-! layFirstLoop: the boundary cycle as the first loop -/
section
variable {f_letterC f_letterR f_letterL f_letterS f_letterE f_triangleLimit f_vertexLimit f_slotCount f_draftCount f_bench f_bitsUsed f_nodeCount f_loopDepth f_boundaryCount f_numbered f_taken f_nextNumber f_viewCount : Int32} {a_draftName a_sideTable a_letterCount a_nodeName a_nodeNext a_nodePrev a_nodeGlue a_loopStack a_boundaryNext a_letters a_offsets a_lengths a_viewName a_viewOpposite : Nat → Int32} {a_packed : Nat → Int64}
theorem xc_lay_loop {post : Int32 → SX → Prop} {L bc : Nat} {y : Nat → Nat} (hL : 3 ≤ L) (hbc : f_boundaryCount = nI bc) (hLb : L ≤ bc) (hb : bc ≤ 32) (hyl : ∀ i, y i < 32) (hyL : y L = y 0) (hi : ∀ i j, i < L → j < L → y i = y j → i = j) (hbn : ∀ i, a_boundaryNext (y i) = nI (y (i + 1)))
    (K : ∀ (nu : Int32) (nN nG : Nat → Int32), xq_set nu (fun x => ∃ j, j < L ∧ y j = x) → (∀ j, j < L → nN j = nI (y j)) → wX_layFirstLoop_66 post (nI (y 0)) (nI (y 0)) f_letterC f_letterR f_letterL f_letterS f_letterE f_triangleLimit f_vertexLimit f_slotCount f_draftCount f_bench f_bitsUsed (nI L) f_loopDepth f_boundaryCount nu f_taken f_nextNumber f_viewCount a_draftName a_sideTable a_packed a_letterCount nN a_nodeNext a_nodePrev nG a_loopStack a_boundaryNext a_letters a_offsets a_lengths a_viewName a_viewOpposite) :
    ∀ m i, L - i < m → i ≤ L → ∀ (nu : Int32) (nN nG : Nat → Int32), xq_set nu (fun x => ∃ j, j < i ∧ y j = x) → (∀ j, j < i → nN j = nI (y j)) →
      wX_layFirstLoop_14 post (nI (y 0)) m (nI (y i)) (nI i) f_letterC f_letterR f_letterL f_letterS f_letterE f_triangleLimit f_vertexLimit f_slotCount f_draftCount f_bench f_bitsUsed (nI i) f_loopDepth f_boundaryCount nu f_taken f_nextNumber f_viewCount a_draftName a_sideTable a_packed a_letterCount nN a_nodeNext a_nodePrev nG a_loopStack a_boundaryNext a_letters a_offsets a_lengths a_viewName a_viewOpposite := by
  subst hbc
  intro m
  induction m with
  | zero => intro i hm; omega
  | succ m ih =>
    intro i hm hi' nu nN nG hq hN
    have hyi := hyl i
    have hy0 := hyl 0
    rw [wX_layFirstLoop_14]
    dsimp only
    by_cases hlt : i < L
    · have go : wX_layFirstLoop_35 post (wX_layFirstLoop_14 post (nI (y 0)) m) (nI (y 0)) (nI (y i)) (nI i) f_letterC f_letterR f_letterL f_letterS f_letterE f_triangleLimit f_vertexLimit f_slotCount f_draftCount f_bench f_bitsUsed (nI i) f_loopDepth (nI bc) nu f_taken f_nextNumber f_viewCount a_draftName a_sideTable a_packed a_letterCount nN a_nodeNext a_nodePrev nG a_loopStack a_boundaryNext a_letters a_offsets a_lengths a_viewName a_viewOpposite := by
        unfold wX_layFirstLoop_35
        refine xw_new rfl (by omega) _ ?_
        refine nm_e ⟨vp_in_nI hyi (by decide), ?_⟩
        rw [nI_clamp (by omega), hbn i]
        refine nm_e (nm_r (nI_1 i) ?_)
        refine ih (i + 1) (by omega) (by omega) _ _ _ ?_ ?_
        · refine xq_iff (xq_or hq hyi) (fun x _ => ⟨?_, ?_⟩)
          · rintro (⟨j, a, b⟩ | rfl)
            · exact ⟨j, by omega, b⟩
            · exact ⟨i, by omega, rfl⟩
          · rintro ⟨j, a, b⟩
            by_cases e : j = i
            · subst e; exact Or.inr b.symm
            · exact Or.inl ⟨j, by omega, b⟩
        · intro j hj
          by_cases e : j = i
          · rw [e, pk_us]
          · rw [pk_un e]; exact hN j (by omega)
      refine br_f (nI_ge (by omega) (by omega)) (br_f (nI_pos (by omega)) ?_)
      by_cases e0 : i = 0
      · subst e0
        exact br_t rfl go
      · refine br_f (nI_ne0 (by omega) (by omega)) (br_f ?_ go)
        rw [nI_eq (by omega) (by omega)]
        intro e
        exact e0 (hi i 0 hlt (by omega) e)
    · have e : i = L := by omega
      subst e
      rw [hyL]
      have fin := K nu nN nG hq hN
      refine br_c (fun _ => fin) (fun _ => br_f (nI_pos (by omega)) (br_f (nI_ne0 (by omega) (by omega)) (br_t rfl fin)))
theorem xc_lay {post : Int32 → SX → Prop} {L bc : Nat} {y : Nat → Nat} {p0 : Int32} (hp : p0 = nI (y 0)) (hL : 3 ≤ L) (hbc : f_boundaryCount = nI bc) (hLb : L ≤ bc) (hb : bc ≤ 32) (hyl : ∀ i, y i < 32) (hyL : y L = y 0) (hi : ∀ i j, i < L → j < L → y i = y j → i = j) (hbn : ∀ i, a_boundaryNext (y i) = nI (y (i + 1)))
    (h1 : L = bc → ∀ (nu : Int32) (nN nG nx pv st : Nat → Int32), xq_set nu (fun x => ∃ j, j < L ∧ y j = x) → (∀ j, j < L → nN j = nI (y j)) → xn_nd nx pv L [List.range L] → st 0 = nI 0 →
      post 1 (f_letterC, f_letterR, f_letterL, f_letterS, f_letterE, f_triangleLimit, f_vertexLimit, f_slotCount, f_draftCount, f_bench, f_bitsUsed, nI L, nI 1, f_boundaryCount, nu, f_taken, f_nextNumber, f_viewCount, a_draftName, a_sideTable, a_packed, a_letterCount, nN, nx, pv, nG, st, a_boundaryNext, a_letters, a_offsets, a_lengths, a_viewName, a_viewOpposite))
    (h0 : L ≠ bc → ∀ (k1 k2 nu : Int32) (nN nG nx pv st : Nat → Int32), post 0 (f_letterC, f_letterR, f_letterL, f_letterS, f_letterE, f_triangleLimit, f_vertexLimit, f_slotCount, f_draftCount, f_bench, f_bitsUsed, k1, k2, f_boundaryCount, nu, f_taken, f_nextNumber, f_viewCount, a_draftName, a_sideTable, a_packed, a_letterCount, nN, nx, pv, nG, st, a_boundaryNext, a_letters, a_offsets, a_lengths, a_viewName, a_viewOpposite)) :
    wpX_layFirstLoop post (f_letterC, f_letterR, f_letterL, f_letterS, f_letterE, f_triangleLimit, f_vertexLimit, f_slotCount, f_draftCount, f_bench, f_bitsUsed, f_nodeCount, f_loopDepth, f_boundaryCount, f_numbered, f_taken, f_nextNumber, f_viewCount, a_draftName, a_sideTable, a_packed, a_letterCount, a_nodeName, a_nodeNext, a_nodePrev, a_nodeGlue, a_loopStack, a_boundaryNext, a_letters, a_offsets, a_lengths, a_viewName, a_viewOpposite) p0 := by
  subst hp
  unfold wpX_layFirstLoop
  dsimp only
  refine ⟨L + 1, xc_lay_loop hL hbc hLb hb hyl hyL hi hbn (fun nu nN nG hq hN => ?_) (L + 1) 0 (by omega) (by omega) _ _ _ ?_ ?_⟩
  · unfold wX_layFirstLoop_66
    refine xw_close (m := L) (by omega) (by omega) rfl (fun nx pv st hnd hst => ?_)
    refine br_t rfl ?_
    subst hbc
    refine pk_eq L bc (fun e => h1 e nu nN nG nx pv st hq hN hnd hst) (fun e => h0 e _ _ _ _ _ _ _ _)
  · exact xq_iff xq_0 (fun x _ => ⟨False.elim, fun ⟨j, hj, _⟩ => absurd hj (Nat.not_lt_zero _)⟩)
  · exact fun j hj => absurd hj (Nat.not_lt_zero _)
end
end
section
/-! peelStep -/
theorem xn_st_nc {w nc g a far nc' : Nat} {NL NL' : List (List Nat)} (h : xn_st w nc g a far NL NL' nc') : mr_let w ∧ (((w = 0 ∨ w = 6) ∧ nc' = nc + 1) ∨ (¬ (w = 0 ∨ w = 6) ∧ nc' = nc)) := by
  obtain ⟨tl, rest, _, ⟨rfl, h, _⟩ | ⟨l1, l2, _, ⟨rfl, _, _, h, _⟩ | ⟨rfl, _, _, h, _⟩ | ⟨rfl, _, _, h, _⟩ | ⟨rfl, _, _, h, _⟩⟩⟩ := h
  · exact ⟨Or.inl rfl, Or.inl ⟨Or.inl rfl, h⟩⟩
  · exact ⟨by unfold mr_let; omega, Or.inr ⟨by decide, h⟩⟩
  · exact ⟨by unfold mr_let; omega, Or.inr ⟨by decide, h⟩⟩
  · exact ⟨by unfold mr_let; omega, Or.inr ⟨by decide, h⟩⟩
  · exact ⟨by unfold mr_let; omega, Or.inl ⟨Or.inr rfl, h⟩⟩
theorem xn_depth {NL : List (List Nat)} (h : ∀ l, l ∈ NL → 3 ≤ l.length) : 3 * NL.length ≤ NL.flatten.length := by
  induction NL with
  | nil => exact Nat.le_refl _
  | cons l r ih =>
    have a := h l (List.mem_cons_self)
    have b := ih (fun l' hl' => h l' (List.mem_cons_of_mem _ hl'))
    rw [List.flatten_cons, List.length_append, List.length_cons]
    omega
def xp_R (n : Nat) (d : Nat → Nat) (s : List (List Nat)) (vs : List Nat) (P : List (Nat × Nat × Nat)) (ws : List Nat) (nc ld nu tk bu : Int32) (pk : Nat → Int64) (lc nN nx pv st : Nat → Int32) : Prop :=
  ∃ (NL : List (List Nat)) (k : Nat) (nm : Nat → Nat), s = NL.map (List.map nm) ∧ xn_nd nx pv k NL ∧ nc = nI k ∧ ld = nI NL.length ∧ xn_sk st NL ∧ (∀ x, x < k → nN x = nI (nm x) ∧ nm x < 32) ∧ k ≤ vs.length + P.length ∧
    xq_set nu (· ∈ vs) ∧ xq_set tk (fun f => f < n ∧ mr_tri d f P) ∧ bu = nI (mr_cb ws).length ∧ xb_PK (pk 8) (pk 9) (mr_cb ws) ∧ lc 4 = nI P.length
section
variable {f_letterC f_letterR f_letterL f_letterS f_letterE f_triangleLimit f_vertexLimit f_slotCount f_draftCount f_bench f_bitsUsed f_nodeCount f_loopDepth f_boundaryCount f_numbered f_taken f_nextNumber f_viewCount : Int32} {a_draftName a_sideTable a_letterCount a_nodeName a_nodeNext a_nodePrev a_nodeGlue a_loopStack a_boundaryNext a_letters a_offsets a_lengths a_viewName a_viewOpposite : Nat → Int32} {a_packed : Nat → Int64}
theorem xp_step {post : Int32 → SX → Prop} {n V : Nat} {d : Nat → Nat} {bs : List Nat} {s : List (List Nat)} {vs : List Nat} {P : List (Nat × Nat × Nat)} {ws : List Nat}
    (hV : f_vertexLimit = nI V) (hV2 : V ≤ 32) (hn : n ≤ 32) (hd : md_Ok n V d) (ht : xd_Tab n V d a_sideTable) (ha : ∀ c, c < 96 → a_draftName c = nI (d c))
    (hI : mr_I n V d bs s vs P ws) (hs : s ≠ []) (hR : xp_R n d s vs P ws f_nodeCount f_loopDepth f_numbered f_taken f_bitsUsed a_packed a_letterCount a_nodeName a_nodeNext a_nodePrev a_loopStack)
    (h1 : ∀ (s' : List (List Nat)) (vs' : List Nat) (P' : List (Nat × Nat × Nat)) (ws' : List Nat) (nc ld nu tk bu : Int32) (pk : Nat → Int64) (lc nN nx pv nG st : Nat → Int32), mr_pe (md_T n d) s vs P ws s' vs' P' ws' → xp_R n d s' vs' P' ws' nc ld nu tk bu pk lc nN nx pv st →
      (∀ j, j < 8 → pk j = a_packed j) → (∀ j, j < 4 → lc j = a_letterCount j) → post 1 (f_letterC, f_letterR, f_letterL, f_letterS, f_letterE, f_triangleLimit, f_vertexLimit, f_slotCount, f_draftCount, f_bench, bu, nc, ld, f_boundaryCount, nu, tk, f_nextNumber, f_viewCount, a_draftName, a_sideTable, pk, lc, nN, nx, pv, nG, st, a_boundaryNext, a_letters, a_offsets, a_lengths, a_viewName, a_viewOpposite))
    (h0 : (∀ s' vs' P' ws', ¬ mr_pe (md_T n d) s vs P ws s' vs' P' ws') → ∀ ld tk : Int32, post 0 (f_letterC, f_letterR, f_letterL, f_letterS, f_letterE, f_triangleLimit, f_vertexLimit, f_slotCount, f_draftCount, f_bench, f_bitsUsed, f_nodeCount, ld, f_boundaryCount, f_numbered, tk, f_nextNumber, f_viewCount, a_draftName, a_sideTable, a_packed, a_letterCount, a_nodeName, a_nodeNext, a_nodePrev, a_nodeGlue, a_loopStack, a_boundaryNext, a_letters, a_offsets, a_lengths, a_viewName, a_viewOpposite)) : wpX_peelStep post (f_letterC, f_letterR, f_letterL, f_letterS, f_letterE, f_triangleLimit, f_vertexLimit, f_slotCount, f_draftCount, f_bench, f_bitsUsed, f_nodeCount, f_loopDepth, f_boundaryCount, f_numbered, f_taken, f_nextNumber, f_viewCount, a_draftName, a_sideTable, a_packed, a_letterCount, a_nodeName, a_nodeNext, a_nodePrev, a_nodeGlue, a_loopStack, a_boundaryNext, a_letters, a_offsets, a_lengths, a_viewName, a_viewOpposite) := by
  obtain ⟨NL, k, nm, rfl, hnd, rfl, rfl, hsk, hnm, hk, hq, htk, hbu, hpk, hlc⟩ := hR
  obtain ⟨r1, r2, r3⟩ := mr_room hI
  have hk64 : k ≤ 64 := by omega
  have h3 : ∀ l, l ∈ NL → 3 ≤ l.length := by
    intro l hl
    have := (hI.1 (l.map nm) (List.mem_map_of_mem hl)).2.1
    rwa [List.length_map] at this
  have hdep : NL.length < 63 := by
    have a := xn_depth h3
    have b := mb_nodup_lt hnd.2.1 hnd.2.2
    omega
  match NL, hs, hnd, hsk, h3, hdep, hI, h1, h0 with
  | [], hs, _, _, _, _, _, _, _ => exact absurd rfl hs
  | [] :: _, _, _, _, h3, _, _, _, _ => exact absurd (h3 [] (List.mem_cons_self)) (by decide)
  | [_] :: _, _, _, _, h3, _, _, _, _ => exact absurd (h3 [_] (List.mem_cons_self)) (by simp)
  | (g :: a :: tl) :: rest, hs, hnd, hsk, h3, hdep, hI, h1, h0 =>
  obtain ⟨t1, t2, t3, t4, t5, t6, t7, t8⟩ := xn_top hnd
  rw [List.length_cons] at hdep
  have hg : g < 64 := Nat.lt_of_lt_of_le (t4 g (by simp)) hk64
  have haa : a < 64 := Nat.lt_of_lt_of_le (t4 a (by simp)) hk64
  have ng := hnm g (t4 g (by simp))
  have na := hnm a (t4 a (by simp))
  have hg0 : a_loopStack rest.length = nI g := hsk.1
  have hpe_top : ∀ s' vs' P' ws', mr_pe (md_T n d) (((g :: a :: tl) :: rest).map (List.map nm)) vs P ws s' vs' P' ws' → ∃ t w, md_T n d (nm g) (nm a) t ∧ ¬ mr_in P (nm g) (nm a) t ∧ ((w = 0 ∧ t ∉ vs) ∨ (w ≠ 0 ∧ t ∈ vs)) ∧ mr_rs w (nm g) (nm a) t (((g :: a :: tl) :: rest).map (List.map nm)) s' := by
    rintro s' vs' P' ws' ⟨w, p, q, t, b1, b2, b3, b4, _, _⟩
    have e : p = nm g ∧ q = nm a := by
      obtain ⟨tl', rest', e, _⟩ := b1
      simp only [List.map_cons, List.cons.injEq] at e
      exact ⟨e.1.1.symm, e.1.2.1.symm⟩
    obtain ⟨rfl, rfl⟩ := e
    refine ⟨t, w, b3, b4, ?_, b1⟩
    rcases b2 with ⟨x, y, _⟩ | ⟨x, y, _⟩
    · exact Or.inl ⟨x, y⟩
    · exact Or.inr ⟨x, y⟩
  unfold wpX_peelStep
  dsimp only
  refine xw_pop (dp := rest.length) rfl (by omega) ?_
  rw [hg0]
  dsimp only
  rw [nI_clamp (by omega), t6.1, nI_clamp (by omega), ng.1, na.1]
  refine ⟨vp_in_nI hg (by decide), vp_in_nI hg (by decide), vp_in_nI haa (by decide), ?_⟩
  refine xa_side_at (d := d) hV hV2 hn hd ht ng.2 na.2 (fun c hc e1 e2 => ?_) (fun hns => ?_)
  · have hT : md_T n d (nm g) (nm a) (d (mq_nx (mq_nx c))) := ⟨c, hc, e1, e2, rfl⟩
    have hc3 : c / 3 < 32 := by omega
    have hx : mq_nx (mq_nx c) < 96 := mq_lt (n := 32) (mq_lt (n := 32) (by omega))
    have htl := (md_T_lt hd hT).2.2
    have hne := md_T_ne hd hT
    have htri : mr_tri d (c / 3) P ↔ mr_in P (nm g) (nm a) (d (mq_nx (mq_nx c))) := by rw [← mr_tri_at, e1, e2]
    refine br_f (nI_pos (by omega)) ⟨ar_n3, ?_⟩
    rw [ar_d3 (by omega)]
    have test := xq_test htk hc3
    by_cases hin : mr_in P (nm g) (nm a) (d (mq_nx (mq_nx c)))
    · refine br_f (fun z => test.mp z ⟨by omega, htri.mpr hin⟩) (h0 ?_ _ _)
      intro s' vs' P' ws' hp
      obtain ⟨t, w, b1, b2, _⟩ := hpe_top s' vs' P' ws' hp
      rw [← md_T_fun hd hT b1] at b2
      exact b2 hin
    · refine br_t (test.mpr (fun z => hin (htri.mp z.2))) ⟨ar_n3, nm_e ?_⟩
      refine xa_tip (by omega) ⟨vp_in_nI hx (by decide), ?_⟩
      rw [nI_clamp (by omega), ha _ hx]
      generalize hte : d (mq_nx (mq_nx c)) = t at *
      have roomlt := mr_room_lt hd hI hT hin
      have htk' : xq_set (f_taken ||| ((1 : Int32) <<< (nI (c / 3) &&& 31))) (fun f => f < n ∧ mr_tri d f (P ++ [(nm g, nm a, t)])) := by
        refine xq_iff (xq_or htk hc3) (fun f _ => ⟨?_, ?_⟩)
        · rintro (⟨z1, z2⟩ | rfl)
          · refine ⟨z1, ?_⟩
            rw [← e1, ← e2, ← hte]
            exact (mr_tri_put hd hc z1).mpr (Or.inl z2)
          · refine ⟨by omega, ?_⟩
            rw [← e1, ← e2, ← hte]
            exact (mr_tri_put hd hc (by omega)).mpr (Or.inr rfl)
        · rintro ⟨z1, z2⟩
          rw [← e1, ← e2, ← hte] at z2
          rcases (mr_tri_put hd hc z1).mp z2 with z | z
          · exact Or.inl ⟨z1, z⟩
          · exact Or.inr z
      have fin : ∀ (w far : Nat) (p2 : Int32) (NL' : List (List Nat)) (nc' : Nat), xn_st w k g a far ((g :: a :: tl) :: rest) NL' nc' → (w ≠ 0 → p2 = nI far ∧ nm far = t) → ((w = 0 ∧ t ∉ vs) ∨ (w ≠ 0 ∧ t ∈ vs)) →
          (∀ (nu : Int32) (post' : Int32 → Prop), post' (nI w) → wpX_classify post' (f_letterC, f_letterR, f_letterL, f_letterS, f_letterE, f_triangleLimit, f_vertexLimit, f_slotCount, f_draftCount, f_bench, f_bitsUsed, nI k, nI rest.length, f_boundaryCount, nu, f_taken ||| ((1 : Int32) <<< (nI (c / 3) &&& 31)), f_nextNumber, f_viewCount, a_draftName, a_sideTable, a_packed, a_letterCount, a_nodeName, a_nodeNext, a_nodePrev, a_nodeGlue, a_loopStack, a_boundaryNext, a_letters, a_offsets, a_lengths, a_viewName, a_viewOpposite) (nI g) p2) →
          wX_peelStep_100 post (nI g) (nI t) p2 f_letterC f_letterR f_letterL f_letterS f_letterE f_triangleLimit f_vertexLimit f_slotCount f_draftCount f_bench f_bitsUsed (nI k) (nI rest.length) f_boundaryCount f_numbered (f_taken ||| ((1 : Int32) <<< (nI (c / 3) &&& 31))) f_nextNumber f_viewCount a_draftName a_sideTable a_packed a_letterCount a_nodeName a_nodeNext a_nodePrev a_nodeGlue a_loopStack a_boundaryNext a_letters a_offsets a_lengths a_viewName a_viewOpposite := by
        intro w far p2 NL' nc' hst hw hvs hcl
        obtain ⟨hlet, hnc⟩ := xn_st_nc hst
        unfold wX_peelStep_100
        refine nm_e ?_
        refine hcl _ _ ?_
        refine xw_rew hst hnd rfl hk64 (fun _ => by omega) rfl hsk.2 (by rw [List.length_cons]; omega) (fun z => (hw z).1) (fun nx pv st nN nG hnd' hsk' hN1 hN2 hG => ?_)
        refine xb_append hlet (by have := mr_cb_len ws; omega) hbu hlc hpk (fun pk hpk1 hpk2 => ?_)
        refine h1 (NL'.map (List.map (fun x => if x = k then t else nm x))) (if w = 0 then vs ++ [t] else vs) (P ++ [(nm g, nm a, t)]) (ws ++ [w]) _ _ _ _ _ _ _ _ _ _ _ _ ?_ ?_ ?_ ?_
        · refine ⟨w, nm g, nm a, t, ?_, ?_, hT, hin, rfl, rfl⟩
          · exact xn_st_rs hst hnd.2.2 (fun x hx => if_neg (by omega)) (fun _ => if_pos rfl) (fun z => (hw z).2)
          · rcases hvs with ⟨z1, z2⟩ | ⟨z1, z2⟩
            · exact Or.inl ⟨z1, z2, if_pos z1⟩
            · exact Or.inr ⟨z1, z2, if_neg z1⟩
        · refine ⟨NL', nc', _, rfl, hnd', rfl, rfl, hsk', ?_, ?_, ?_, htk', by rw [mr_cb_snoc], by rw [mr_cb_snoc]; exact hpk2, ?_⟩
          · intro x hx
            by_cases e : x = k
            · subst e
              rw [if_pos rfl]
              refine ⟨hN2 ?_, by omega⟩
              rcases hnc with ⟨z, _⟩ | ⟨_, z⟩
              · exact z
              · omega
            · rw [if_neg e]
              have hxk : x < k := by rcases hnc with ⟨_, z⟩ | ⟨_, z⟩ <;> omega
              rw [hN1 x hxk]
              exact hnm x hxk
          · rw [List.length_append, List.length_singleton]
            by_cases e : w = 0
            · rw [if_pos e, List.length_append, List.length_singleton]
              rcases hnc with ⟨_, z⟩ | ⟨_, z⟩ <;> omega
            · rw [if_neg e]
              rcases hnc with ⟨_, z⟩ | ⟨_, z⟩ <;> omega
          · refine xq_iff (xq_or hq (by omega : t < 32)) (fun x _ => ?_)
            rcases hvs with ⟨z1, z2⟩ | ⟨z1, z2⟩
            · rw [if_pos z1, List.mem_append, List.mem_singleton]
            · rw [if_neg z1]
              exact ⟨fun z => by rcases z with z | rfl <;> assumption, Or.inl⟩
          · rw [List.length_append, List.length_singleton]; exact pk_us
        · exact hpk1
        · intro j hj
          exact pk_un (by omega)
      refine nm_e ?_
      have testn := xq_test hq (by omega : t < 32)
      by_cases hv : t ∈ vs
      · refine br_f (fun z => testn.mp z hv) ?_
        have hnda : (a :: tl).Nodup := (List.nodup_cons.mp t1).2
        refine xw_loc (nm := nm) (tl := a :: tl) ⟨t6, t7⟩ t1 t4 hk64 (by omega) hnm (fun l1 far l2 el en en' => ?_) (fun hno => ?_)
        · refine br_t (nI_pos' ?_) ?_
          · have : far ∈ a :: tl := by rw [el]; simp
            have := t4 far (List.mem_cons_of_mem _ this)
            omega
          · cases l1 with
            | nil =>
              simp only [List.nil_append, List.cons.injEq] at el
              exact absurd (by rw [← el.1] at en; exact en) hne.2.1
            | cons z l1 =>
              simp only [List.cons_append, List.cons.injEq] at el
              obtain ⟨rfl, rfl⟩ := el
              have hcl := fun (nu : Int32) (post' : Int32 → Prop) => xw_cls (post := post') (f_letterC := f_letterC) (f_letterR := f_letterR) (f_letterL := f_letterL) (f_letterS := f_letterS) (f_letterE := f_letterE) (f_triangleLimit := f_triangleLimit) (f_vertexLimit := f_vertexLimit) (f_slotCount := f_slotCount) (f_draftCount := f_draftCount) (f_bench := f_bench) (f_bitsUsed := f_bitsUsed) (f_nodeCount := nI k) (f_loopDepth := nI rest.length) (f_boundaryCount := f_boundaryCount) (f_numbered := nu) (f_taken := f_taken ||| ((1 : Int32) <<< (nI (c / 3) &&& 31))) (f_nextNumber := f_nextNumber) (f_viewCount := f_viewCount) (a_draftName := a_draftName) (a_sideTable := a_sideTable) (a_packed := a_packed) (a_letterCount := a_letterCount) (a_nodeName := a_nodeName) (a_nodeGlue := a_nodeGlue) (a_loopStack := a_loopStack) (a_boundaryNext := a_boundaryNext) (a_letters := a_letters) (a_offsets := a_offsets) (a_lengths := a_lengths) (a_viewName := a_viewName) (a_viewOpposite := a_viewOpposite) hnd hk64
              by_cases c1 : l1 = []
              · by_cases c2 : l2 = []
                · exact fin 7 far _ rest k ⟨_, _, rfl, Or.inr ⟨l1, l2, rfl, Or.inl ⟨rfl, c1, c2, rfl, rfl⟩⟩⟩ (fun _ => ⟨rfl, en⟩) (Or.inr ⟨by decide, hv⟩) (fun nu post' hp => hcl nu post' (fun _ _ => hp) (fun _ z => absurd c2 z) (fun z => absurd c1 z) (fun z => absurd c1 z))
                · exact fin 4 far _ _ k ⟨_, _, rfl, Or.inr ⟨l1, l2, rfl, Or.inr (Or.inl ⟨rfl, c1, c2, rfl, rfl⟩)⟩⟩ (fun _ => ⟨rfl, en⟩) (Or.inr ⟨by decide, hv⟩) (fun nu post' hp => hcl nu post' (fun _ z => absurd z c2) (fun _ _ => hp) (fun z => absurd c1 z) (fun z => absurd c1 z))
              · by_cases c2 : l2 = []
                · exact fin 5 far _ _ k ⟨_, _, rfl, Or.inr ⟨l1, l2, rfl, Or.inr (Or.inr (Or.inl ⟨rfl, c1, c2, rfl, rfl⟩))⟩⟩ (fun _ => ⟨rfl, en⟩) (Or.inr ⟨by decide, hv⟩) (fun nu post' hp => hcl nu post' (fun z => absurd z c1) (fun z => absurd z c1) (fun _ _ => hp) (fun _ z => absurd c2 z))
                · exact fin 6 far _ _ (k + 1) ⟨_, _, rfl, Or.inr ⟨l1, l2, rfl, Or.inr (Or.inr (Or.inr ⟨rfl, c1, c2, rfl, rfl⟩))⟩⟩ (fun _ => ⟨rfl, en⟩) (Or.inr ⟨by decide, hv⟩) (fun nu post' hp => hcl nu post' (fun z => absurd z c1) (fun z => absurd z c1) (fun _ z => absurd z c2) (fun _ _ => hp))
        · refine br_f ar_ng (h0 ?_ _ _)
          intro s' vs' P' ws' hp
          obtain ⟨t', w, b1, _, b3, b4⟩ := hpe_top s' vs' P' ws' hp
          have := md_T_fun hd hT b1
          subst this
          rcases b3 with ⟨_, z⟩ | ⟨hw, _⟩
          · exact z hv
          · obtain ⟨tl', rest', e, hcase⟩ := b4
            simp only [List.map_cons, List.cons.injEq] at e
            rcases hcase with ⟨z, _⟩ | ⟨l1, l2, e', _⟩
            · exact hw z
            · have : t ∈ tl.map nm := by rw [e.1.2.2, e']; simp
              obtain ⟨z, hz, ez⟩ := List.mem_map.mp this
              exact hno z (List.mem_cons_of_mem _ hz) ez
      · refine br_t (testn.mpr hv) ?_
        exact fin 0 0 _ _ (k + 1) ⟨_, _, rfl, Or.inl ⟨rfl, rfl, rfl⟩⟩ (fun z => absurd rfl z) (Or.inl ⟨rfl, hv⟩) (fun nu post' hp => xw_cls0 hp)
  · refine br_t ar_lg (h0 ?_ _ _)
    intro s' vs' P' ws' hp
    obtain ⟨t, w, b1, _⟩ := hpe_top s' vs' P' ws' hp
    exact hns (md_T_S.mpr ⟨t, b1⟩)
end
end
section
/-! the outcome of a peeling, the same for both sides -/
def mo_cyc (B : Nat → Nat → Prop) (L : Nat) (y : Nat → Nat) (a b : Nat) : Prop :=
  3 ≤ L ∧ y 0 = a ∧ y 1 = b ∧ y L = a ∧ (∀ i, B (y i) (y (i + 1))) ∧ (∀ i j, i < L → j < L → y i = y j → i = j)
noncomputable def mo_bc (B : Nat → Nat → Prop) : Nat := mb_cn (fun x => ∃ z, B x z) 32
def mo_one (B : Nat → Nat → Prop) : Prop := ∀ x y y', B x y → B x y' → y = y'
def mo_Out (n : Nat) (Tp : Nat → Nat → Nat → Prop) (B : Nat → Nat → Prop) (p0 p1 r : Int32) (L : Nat) (vs : List Nat) (P : List (Nat × Nat × Nat)) (ws : List Nat) : Prop :=
  (r = -7 ∧ ¬ ∃ p q, p0 = nI p ∧ p1 = nI q ∧ B p q) ∨
  ∃ p q, p0 = nI p ∧ p1 = nI q ∧ B p q ∧
    ((r = -8 ∧ ¬ mo_one B) ∨ (mo_one B ∧ ∃ y, mo_cyc B L y p q ∧
      ((r = -8 ∧ L ≠ mo_bc B) ∨ (L = mo_bc B ∧ ∃ res, mr_pr Tp 33 [(List.range L).map y] ((List.range L).map y) [] [] res ∧
        ((r = -8 ∧ (res = none ∨ ∃ vs' P' ws', res = some (vs', P', ws') ∧ P'.length ≠ n)) ∨ (r = 0 ∧ res = some (vs, P, ws) ∧ P.length = n))))))
theorem mo_ex {n V : Nat} {d : Nat → Nat} (hd : md_Ok n V d) (p0 p1 : Int32) : ∃ r L vs P ws, mo_Out n (md_T n d) (md_B n d) p0 p1 r L vs P ws := by
  by_cases hb : ∃ p q, p0 = nI p ∧ p1 = nI q ∧ md_B n d p q
  · obtain ⟨p, q, e1, e2, hb⟩ := hb
    by_cases h1 : mo_one (md_B n d)
    · obtain ⟨L, y, hc⟩ := md_cyc hd h1 hb
      by_cases h2 : L = mo_bc (md_B n d)
      · obtain ⟨res, hr⟩ := mr_pr_ex (md_T n d) 33 [(List.range L).map y] ((List.range L).map y) [] []
        match res, hr with
        | none, hr => exact ⟨-8, L, [], [], [], Or.inr ⟨p, q, e1, e2, hb, Or.inr ⟨h1, y, hc, Or.inr ⟨h2, none, hr, Or.inl ⟨rfl, Or.inl rfl⟩⟩⟩⟩⟩
        | some (vs, P, ws), hr =>
          by_cases h3 : P.length = n
          · exact ⟨0, L, vs, P, ws, Or.inr ⟨p, q, e1, e2, hb, Or.inr ⟨h1, y, hc, Or.inr ⟨h2, _, hr, Or.inr ⟨rfl, rfl, h3⟩⟩⟩⟩⟩
          · exact ⟨-8, L, [], [], [], Or.inr ⟨p, q, e1, e2, hb, Or.inr ⟨h1, y, hc, Or.inr ⟨h2, _, hr, Or.inl ⟨rfl, Or.inr ⟨vs, P, ws, rfl, h3⟩⟩⟩⟩⟩⟩
      · exact ⟨-8, L, [], [], [], Or.inr ⟨p, q, e1, e2, hb, Or.inr ⟨h1, y, hc, Or.inl ⟨rfl, h2⟩⟩⟩⟩
    · exact ⟨-8, 0, [], [], [], Or.inr ⟨p, q, e1, e2, hb, Or.inl ⟨rfl, h1⟩⟩⟩
  · exact ⟨-7, 0, [], [], [], Or.inl ⟨rfl, hb⟩⟩
theorem mr_pr_I {n V : Nat} {d : Nat → Nat} (hd : md_Ok n V d) {bs : List Nat} {vs' : List Nat} {P' : List (Nat × Nat × Nat)} {ws' : List Nat} (k : Nat) : ∀ (s : List (List Nat)) (vs : List Nat) (P : List (Nat × Nat × Nat)) (ws : List Nat),
    mr_I n V d bs s vs P ws → mr_pr (md_T n d) k s vs P ws (some (vs', P', ws')) → mr_I n V d bs [] vs' P' ws' := by
  induction k with
  | zero =>
    intro s vs P ws hI hr
    rcases hr with ⟨rfl, e⟩ | ⟨_, e⟩
    · simp only [Option.some.injEq, Prod.mk.injEq] at e
      obtain ⟨rfl, rfl, rfl⟩ := e
      exact hI
    · exact nomatch e
  | succ k ih =>
    intro s vs P ws hI hr
    rcases hr with ⟨rfl, e⟩ | ⟨_, ⟨s1, vs1, P1, ws1, hp, hr⟩ | ⟨_, e⟩⟩
    · simp only [Option.some.injEq, Prod.mk.injEq] at e
      obtain ⟨rfl, rfl, rfl⟩ := e
      exact hI
    · exact ih s1 vs1 P1 ws1 (mr_I_step hd hI hp) hr
    · exact nomatch e
theorem mo_cyc_lt {n V : Nat} {d : Nat → Nat} (hd : md_Ok n V d) {L : Nat} {y : Nat → Nat} {a b : Nat} (hc : mo_cyc (md_B n d) L y a b) (i : Nat) : y i < V := (md_S_lt hd (hc.2.2.2.2.1 i).1).1
theorem mo_cyc_le {n V : Nat} {d : Nat → Nat} (hd : md_Ok n V d) (hV : V ≤ 32) {L : Nat} {y : Nat → Nat} {a b : Nat} (hc : mo_cyc (md_B n d) L y a b) : L ≤ mo_bc (md_B n d) ∧ mo_bc (md_B n d) ≤ 32 ∧ L ≤ V := by
  have nd : ((List.range L).map y).Nodup := mb_nodup_map List.nodup_range (fun i j a b => hc.2.2.2.2.2 i j (List.mem_range.mp a) (List.mem_range.mp b))
  have hl : ((List.range L).map y).length = L := by rw [List.length_map, List.length_range]
  refine ⟨?_, mb_cn_le _ _, ?_⟩
  · have := mb_cn_sub (p := fun x => ∃ z, md_B n d x z) (n := 32) nd (fun x hx => by
      obtain ⟨i, _, rfl⟩ := List.mem_map.mp hx
      exact ⟨by have := mo_cyc_lt hd hc i; omega, _, hc.2.2.2.2.1 i⟩)
    rwa [hl] at this
  · have := mb_nodup_lt (n := V) nd (fun x hx => by
      obtain ⟨i, _, rfl⟩ := List.mem_map.mp hx
      exact mo_cyc_lt hd hc i)
    rwa [hl] at this
/-- a peeling that succeeds leaves a whole record -/
theorem mo_fin {n V : Nat} {d : Nat → Nat} (hd : md_Ok n V d) (hV : V ≤ 32) {p0 p1 : Int32} {L : Nat} {vs : List Nat} {P : List (Nat × Nat × Nat)} {ws : List Nat} (h : mo_Out n (md_T n d) (md_B n d) p0 p1 0 L vs P ws) :
    mt_Rec L vs.length (P.map (mr_m3 (fun x => vs.idxOf x))) ws ∧ P.length = n ∧ vs.length ≤ V ∧ 1 ≤ n ∧ ws.length = n := by
  rcases h with ⟨z, _⟩ | ⟨p, q, _, _, hb, ⟨z, _⟩ | ⟨h1, y, hc, ⟨z, _⟩ | ⟨h2, res, hr, ⟨z, _⟩ | ⟨_, rfl, h3⟩⟩⟩⟩
  · exact absurd z (by decide)
  · exact absurd z (by decide)
  · exact absurd z (by decide)
  · exact absurd z (by decide)
  · have hI := mr_pr_I hd 33 _ _ _ _ (mr_I0 hd hc.1 hc.2.2.2.2.1 hc.2.2.2.2.2) hr
    obtain ⟨r1, r2, r3⟩ := mr_room hI
    refine ⟨mt_fin hd hc.1 (hc.2.2.2.1.trans hc.2.1.symm) hc.2.2.2.2.1 ?_ h1 hI h3, h3, r2, ?_, by omega⟩
    · intro p' q' hb'
      have nd : ((List.range L).map y).Nodup := mb_nodup_map List.nodup_range (fun i j a b => hc.2.2.2.2.2 i j (List.mem_range.mp a) (List.mem_range.mp b))
      have hl : ((List.range L).map y).length = L := by rw [List.length_map, List.length_range]
      have := mb_cn_full (p := fun x => ∃ z, md_B n d x z) (n := 32) nd (fun x hx => by
        obtain ⟨i, _, rfl⟩ := List.mem_map.mp hx
        exact ⟨by have := mo_cyc_lt hd hc i; omega, _, hc.2.2.2.2.1 i⟩) (by rw [hl]; exact Nat.le_of_eq h2.symm) p' (by have := (md_S_lt hd hb'.1).1; omega) ⟨q', hb'⟩
      obtain ⟨i, hi, e⟩ := List.mem_map.mp this
      exact ⟨i, List.mem_range.mp hi, e.symm⟩
    · obtain ⟨⟨c, hc', _⟩, _⟩ := hb
      omega
end
section
/-! the component's peel against the pure outcome -/
def xp_F (pk0 pk : Nat → Int64) (lc0 lc : Nat → Int32) : Prop := (∀ j, j < 8 → pk j = pk0 j) ∧ (∀ j, j < 4 → lc j = lc0 j)
section
variable {f_letterC f_letterR f_letterL f_letterS f_letterE f_triangleLimit f_vertexLimit f_slotCount f_draftCount f_bench f_bitsUsed f_nodeCount f_loopDepth f_boundaryCount f_numbered f_taken f_nextNumber f_viewCount : Int32} {a_draftName a_sideTable a_letterCount a_nodeName a_nodeNext a_nodePrev a_nodeGlue a_loopStack a_boundaryNext a_letters a_offsets a_lengths a_viewName a_viewOpposite : Nat → Int32} {a_packed : Nat → Int64}
theorem xp_loop {post : Int32 → SX → Prop} {n V : Nat} {d : Nat → Nat} {bs : List Nat} {res : Option (List Nat × List (Nat × Nat × Nat) × List Nat)}
    (hV : f_vertexLimit = nI V) (hV2 : V ≤ 32) (hn : n ≤ 32) (hd : md_Ok n V d) (ht : xd_Tab n V d a_sideTable) (hc : f_draftCount = nI n) (ha : ∀ c, c < 96 → a_draftName c = nI (d c))
    (h0 : (res = none ∨ ∃ vs' P' ws', res = some (vs', P', ws') ∧ P'.length ≠ n) → ∀ (nc ld nu tk bu : Int32) (pk : Nat → Int64) (lc nN nx pv nG st : Nat → Int32), xp_F a_packed pk a_letterCount lc →
      post (-8) (f_letterC, f_letterR, f_letterL, f_letterS, f_letterE, f_triangleLimit, f_vertexLimit, f_slotCount, f_draftCount, f_bench, bu, nc, ld, f_boundaryCount, nu, tk, f_nextNumber, f_viewCount, a_draftName, a_sideTable, pk, lc, nN, nx, pv, nG, st, a_boundaryNext, a_letters, a_offsets, a_lengths, a_viewName, a_viewOpposite))
    (h1 : ∀ vs P ws, res = some (vs, P, ws) → P.length = n → ∀ (nc ld nu tk bu : Int32) (pk : Nat → Int64) (lc nN nx pv nG st : Nat → Int32), xp_F a_packed pk a_letterCount lc → xb_PK (pk 8) (pk 9) (mr_cb ws) → lc 4 = nI n →
      post 0 (f_letterC, f_letterR, f_letterL, f_letterS, f_letterE, f_triangleLimit, f_vertexLimit, f_slotCount, f_draftCount, f_bench, bu, nc, ld, f_boundaryCount, nu, tk, f_nextNumber, f_viewCount, a_draftName, a_sideTable, pk, lc, nN, nx, pv, nG, st, a_boundaryNext, a_letters, a_offsets, a_lengths, a_viewName, a_viewOpposite)) :
    ∀ (k : Nat) (s : List (List Nat)) (vs : List Nat) (P : List (Nat × Nat × Nat)) (ws : List Nat), mr_pr (md_T n d) k s vs P ws res → mr_I n V d bs s vs P ws → k + P.length = 33 →
      ∀ (nc ld nu tk bu : Int32) (pk : Nat → Int64) (lc nN nx pv nG st : Nat → Int32), xp_R n d s vs P ws nc ld nu tk bu pk lc nN nx pv st → xp_F a_packed pk a_letterCount lc →
      wX_peel_50 post (k + 1) (nI P.length) f_letterC f_letterR f_letterL f_letterS f_letterE f_triangleLimit f_vertexLimit f_slotCount f_draftCount f_bench bu nc ld f_boundaryCount nu tk f_nextNumber f_viewCount a_draftName a_sideTable pk lc nN nx pv nG st a_boundaryNext a_letters a_offsets a_lengths a_viewName a_viewOpposite := by
  intro k
  induction k with
  | zero =>
    intro s vs P ws _ hI hk
    have := (mr_room hI).1
    omega
  | succ k ih =>
    intro s vs P ws hr hI hk nc ld nu tk bu pk lc nN nx pv nG st hR hF
    have hroom := mr_room hI
    rw [wX_peel_50]
    dsimp only
    refine br_f (nI_nlt (a := 32) (by omega) (by decide)) ?_
    rcases hr with ⟨rfl, e⟩ | ⟨hs, hr⟩
    · obtain ⟨NL, k', nm, e1, hnd, rfl, rfl, hsk, hnm, hk', hq, htk, hbu, hpk, hlc⟩ := hR
      have : NL = [] := by
        cases NL with
        | nil => rfl
        | cons l r => exact nomatch e1
      subst this
      refine br_t (nI_le (a := 0) (b := 0) (by decide) (by decide)) ?_
      unfold wX_peel_79
      subst hc
      refine br_t rfl ?_
      rw [hlc]
      refine pk_eq P.length n (fun e2 => ?_) (fun e2 => ?_)
      · exact h1 vs P ws e e2 _ _ _ _ _ _ _ _ _ _ _ _ hF hpk (by rw [hlc, e2])
      · exact h0 (Or.inr ⟨vs, P, ws, e, e2⟩) _ _ _ _ _ _ _ _ _ _ _ _ hF
    · have hld : ∃ m, ld = nI (m + 1) ∧ m < 63 := by
        obtain ⟨NL, k', nm, rfl, hnd, _, rfl, _, _, hk', _⟩ := hR
        have h3 : ∀ l, l ∈ NL → 3 ≤ l.length := by
          intro l hl
          have := (hI.1 (l.map nm) (List.mem_map_of_mem hl)).2.1
          rwa [List.length_map] at this
        have a := xn_depth h3
        have b := mb_nodup_lt hnd.2.1 hnd.2.2
        cases NL with
        | nil => exact absurd rfl hs
        | cons l r =>
          rw [List.length_cons] at a
          exact ⟨r.length, rfl, by omega⟩
      have hld0 : ¬ ld ≤ 0 := by
        obtain ⟨m, rfl, hm⟩ := hld
        exact nI_nle (by omega) (by omega)
      refine br_f hld0 ?_
      refine xp_step (bs := bs) hV hV2 hn hd ht ha hI hs hR (fun s' vs' P' ws' nc' ld' nu' tk' bu' pk' lc' nN' nx' pv' nG' st' hp hR' f1 f2 => ?_) (fun hno ld' tk' => ?_)
      · refine br_f ar_n1 ?_
        rcases hr with ⟨s2, vs2, P2, ws2, hp2, hr2⟩ | ⟨hno, _⟩
        · obtain ⟨rfl, rfl, rfl, rfl⟩ := mr_pe_det hd (fun l hl => (hI.1 l hl).1) hp hp2
          have hlen : P'.length = P.length + 1 := by
            obtain ⟨w, p, q, t, _, _, _, _, e, _⟩ := hp
            rw [e, List.length_append, List.length_singleton]
          refine nm_r (e' := nI P'.length) (by rw [hlen]; exact nI_1 _) ?_
          exact ih s' vs' P' ws' hr2 (mr_I_step hd hI hp) (by omega) _ _ _ _ _ _ _ _ _ _ _ _ hR' ⟨fun j hj => (f1 j hj).trans (hF.1 j hj), fun j hj => (f2 j hj).trans (hF.2 j hj)⟩
        · exact absurd hp (hno s' vs' P' ws')
      · refine br_t rfl ?_
        rcases hr with ⟨s2, vs2, P2, ws2, hp2, _⟩ | ⟨_, e⟩
        · exact absurd hp2 (hno s2 vs2 P2 ws2)
        · exact h0 (Or.inl e) _ _ _ _ _ _ _ _ _ _ _ _ hF
theorem xp_clearBench {post : SX → Prop} (h : ∀ (pk : Nat → Int64) (lc : Nat → Int32), xp_F a_packed pk a_letterCount lc → pk 8 = 0 → pk 9 = 0 → lc 4 = 0 → post (f_letterC, f_letterR, f_letterL, f_letterS, f_letterE, f_triangleLimit, f_vertexLimit, f_slotCount, f_draftCount, f_bench, 0, f_nodeCount, f_loopDepth, f_boundaryCount, f_numbered, f_taken, f_nextNumber, f_viewCount, a_draftName, a_sideTable, pk, lc, a_nodeName, a_nodeNext, a_nodePrev, a_nodeGlue, a_loopStack, a_boundaryNext, a_letters, a_offsets, a_lengths, a_viewName, a_viewOpposite)) : wpX_clearBench post (f_letterC, f_letterR, f_letterL, f_letterS, f_letterE, f_triangleLimit, f_vertexLimit, f_slotCount, f_draftCount, f_bench, f_bitsUsed, f_nodeCount, f_loopDepth, f_boundaryCount, f_numbered, f_taken, f_nextNumber, f_viewCount, a_draftName, a_sideTable, a_packed, a_letterCount, a_nodeName, a_nodeNext, a_nodePrev, a_nodeGlue, a_loopStack, a_boundaryNext, a_letters, a_offsets, a_lengths, a_viewName, a_viewOpposite) := by
  unfold wpX_clearBench
  dsimp only
  refine nm_e (nm_e (nm_e (h _ _ ⟨fun j hj => ?_, fun j hj => ?_⟩ ?_ ?_ ?_)))
  · rw [pk_uLn (by omega), pk_uLn (by omega)]
  · rw [pk_un (by omega)]
  · rw [pk_uLn (by omega), pk_uLs]
  · rw [pk_uLs]
  · rw [pk_us]
/-- peel -/
theorem xp_peel {post : Int32 → SX → Prop} {n V : Nat} {d : Nat → Nat} {p0 p1 r : Int32} {L : Nat} {vs : List Nat} {P : List (Nat × Nat × Nat)} {ws : List Nat}
    (hV : f_vertexLimit = nI V) (hV2 : V ≤ 32) (hn : n ≤ 32) (hd : md_Ok n V d) (ht : xd_Tab n V d a_sideTable) (hc : f_draftCount = nI n) (ha : ∀ c, c < 96 → a_draftName c = nI (d c))
    (ho : mo_Out n (md_T n d) (md_B n d) p0 p1 r L vs P ws)
    (h : ∀ (nc ld bc nu tk bu : Int32) (pk : Nat → Int64) (lc nN nx pv nG st bn : Nat → Int32), xp_F a_packed pk a_letterCount lc → (r = 0 → xb_PK (pk 8) (pk 9) (mr_cb ws) ∧ lc 4 = nI n) →
      post r (f_letterC, f_letterR, f_letterL, f_letterS, f_letterE, f_triangleLimit, f_vertexLimit, f_slotCount, f_draftCount, f_bench, bu, nc, ld, bc, nu, tk, f_nextNumber, f_viewCount, a_draftName, a_sideTable, pk, lc, nN, nx, pv, nG, st, bn, a_letters, a_offsets, a_lengths, a_viewName, a_viewOpposite)) :
    wpX_peel post (f_letterC, f_letterR, f_letterL, f_letterS, f_letterE, f_triangleLimit, f_vertexLimit, f_slotCount, f_draftCount, f_bench, f_bitsUsed, f_nodeCount, f_loopDepth, f_boundaryCount, f_numbered, f_taken, f_nextNumber, f_viewCount, a_draftName, a_sideTable, a_packed, a_letterCount, a_nodeName, a_nodeNext, a_nodePrev, a_nodeGlue, a_loopStack, a_boundaryNext, a_letters, a_offsets, a_lengths, a_viewName, a_viewOpposite) p0 p1 := by
  have F0 : xp_F a_packed a_packed a_letterCount a_letterCount := ⟨fun _ _ => rfl, fun _ _ => rfl⟩
  unfold wpX_peel
  dsimp only
  rcases ho with ⟨rfl, hno⟩ | ⟨p, q, rfl, rfl, hb, ho⟩
  · have bad := h f_nodeCount f_loopDepth f_boundaryCount f_numbered f_taken f_bitsUsed a_packed a_letterCount a_nodeName a_nodeNext a_nodePrev a_nodeGlue a_loopStack a_boundaryNext F0 (fun z => absurd z (by decide))
    refine xa_side hV hV2 hn ht _ _ (fun c hc' e1 e2 => ?_) (fun _ => br_t ar_lg bad)
    refine br_f (nI_pos (by omega)) ?_
    refine xa_side hV hV2 hn ht _ _ (fun c' hc'' e1' e2' => br_f (nI_pos (by omega)) bad) (fun hs => ?_)
    have l1 := hd.1 c hc'
    have l2 := hd.1 _ (mq_lt hc')
    exact absurd ⟨d c, d (mq_nx c), e1, e2, ⟨c, hc', rfl, rfl⟩, hs _ _ l2 l1 e2 e1⟩ hno
  · have hlt := md_S_lt hd hb.1
    refine xa_side_at (d := d) hV hV2 hn hd ht (by omega) (by omega) (fun c hc' e1 e2 => ?_) (fun hs => absurd hb.1 hs)
    refine br_f (nI_pos (by omega)) ?_
    refine xa_side_at (d := d) hV hV2 hn hd ht (by omega) (by omega) (fun c hc' e1 e2 => absurd ⟨c, hc', e1, e2⟩ hb.2) (fun _ => ?_)
    refine br_t ar_lg ?_
    refine xc_collect hV hV2 hn hd ht hc ha (fun hone bn k => ?_) (fun hone bn hbn => ?_)
    · refine br_t rfl ?_
      rcases ho with ⟨rfl, _⟩ | ⟨h1, _⟩
      · exact h _ _ _ _ _ _ _ _ _ _ _ _ _ _ F0 (fun z => absurd z (by decide))
      · exact absurd h1 hone
    · dsimp only
      refine br_f ar_n1 ?_
      rcases ho with ⟨_, h1⟩ | ⟨_, y, hcy, ho⟩
      · exact absurd hone h1
      · obtain ⟨c1, c2, c3, c4, c5, c6⟩ := hcy
        obtain ⟨b1, b2, b3⟩ := mo_cyc_le hd hV2 ⟨c1, c2, c3, c4, c5, c6⟩
        have hyl : ∀ i, y i < 32 := fun i => by have := mo_cyc_lt hd ⟨c1, c2, c3, c4, c5, c6⟩ i; omega
        have hbn' : ∀ i, bn (y i) = nI (y (i + 1)) := by
          intro i
          rcases hbn (y i) (hyl i) with ⟨z, hz, e⟩ | ⟨hz, _⟩
          · rw [e, hone _ _ _ hz (c5 i)]
          · exact absurd (c5 i) (hz _)
        refine xc_lay (L := L) (bc := mo_bc (md_B n d)) (y := y) (by rw [c2]) c1 rfl b1 b2 hyl (c4.trans c2.symm) c6 hbn' (fun eL nu nN nG nx pv st hq hN hnd hst => ?_) (fun eL k1 k2 nu nN nG nx pv st => ?_)
        · dsimp only
          refine br_f ar_n1 ?_
          rcases ho with ⟨_, e⟩ | ⟨_, res, hr, ho⟩
          · exact absurd eL e
          · refine xp_clearBench (fun pk lc hF e8 e9 e4 => ?_)
            dsimp only
            refine ⟨34, ?_⟩
            refine xp_loop (bs := (List.range L).map y) (res := res) hV hV2 hn hd ht hc ha ?_ ?_ 33 _ _ _ _ hr (mr_I0 hd c1 c5 c6) rfl _ _ _ _ _ _ _ _ _ _ _ _ ?_ ⟨fun _ _ => rfl, fun _ _ => rfl⟩
            · intro hz nc ld nu' tk bu pk' lc' nN' nx' pv' nG' st' hF'
              have er : r = -8 := by
                rcases ho with ⟨e, _⟩ | ⟨_, e, e'⟩
                · exact e
                · rcases hz with z | ⟨vs', P', ws', z, z'⟩
                  · rw [e] at z; exact nomatch z
                  · rw [e] at z
                    simp only [Option.some.injEq, Prod.mk.injEq] at z
                    rw [← z.2.1] at z'
                    exact absurd e' z'
              subst er
              exact h _ _ _ _ _ _ _ _ _ _ _ _ _ _ ⟨fun j hj => (hF'.1 j hj).trans (hF.1 j hj), fun j hj => (hF'.2 j hj).trans (hF.2 j hj)⟩ (fun z => absurd z (by decide))
            · intro vs' P' ws' hz hz' nc ld nu' tk bu pk' lc' nN' nx' pv' nG' st' hF' hpk' hlc'
              have er : r = 0 ∧ ws = ws' := by
                rcases ho with ⟨_, z⟩ | ⟨e, e', _⟩
                · rcases z with z | ⟨vs'', P'', ws'', z, z'⟩
                  · rw [hz] at z; exact nomatch z
                  · rw [hz] at z
                    simp only [Option.some.injEq, Prod.mk.injEq] at z
                    rw [← z.2.1] at z'
                    exact absurd hz' z'
                · rw [hz] at e'
                  simp only [Option.some.injEq, Prod.mk.injEq] at e'
                  exact ⟨e, e'.2.2.symm⟩
              obtain ⟨rfl, rfl⟩ := er
              exact h _ _ _ _ _ _ _ _ _ _ _ _ _ _ ⟨fun j hj => (hF'.1 j hj).trans (hF.1 j hj), fun j hj => (hF'.2 j hj).trans (hF.2 j hj)⟩ (fun _ => ⟨hpk', hlc'⟩)
            · refine ⟨[List.range L], L, y, rfl, hnd, rfl, rfl, ⟨?_, trivial⟩, ?_, ?_, ?_, ?_, rfl, ?_, ?_⟩
              · obtain ⟨m, rfl⟩ : ∃ m, L = m + 1 := ⟨L - 1, by omega⟩
                rw [List.range_eq_range', List.range'_succ]; exact hst
              · exact fun x hx => ⟨hN x hx, hyl x⟩
              · rw [List.length_map, List.length_range]; omega
              · refine xq_iff hq (fun x _ => ⟨?_, ?_⟩)
                · rintro ⟨j, hj, rfl⟩; exact List.mem_map.mpr ⟨j, List.mem_range.mpr hj, rfl⟩
                · intro hx
                  obtain ⟨j, hj, e⟩ := List.mem_map.mp hx
                  exact ⟨j, List.mem_range.mp hj, e⟩
              · refine xq_iff xq_0 (fun x _ => ⟨False.elim, ?_⟩)
                rintro ⟨_, z | z | z⟩ <;> exact nomatch z
              · rw [e8, e9]; exact xb_PK_0
              · exact e4
        · refine br_t rfl ?_
          rcases ho with ⟨rfl, _⟩ | ⟨e, _⟩
          · exact h _ _ _ _ _ _ _ _ _ _ _ _ _ _ F0 (fun z => absurd z (by decide))
          · exact absurd e eL
end
end
section
/-! decoding: glue of the loops' sides, opposite corners; node loops behind a run of numbers -/
def xg_ch (G : Nat → Nat → Prop) : Nat → List Nat → Prop
  | _, [] => True
  | x, y :: l => G x y ∧ xg_ch G y l
def xg_lp (G : Nat → Nat → Prop) : List Nat → Prop
  | [] => True
  | g :: tl => xg_ch G g (tl ++ [g])
theorem xg_app {G : Nat → Nat → Prop} {l1 : List Nat} : ∀ {x y : Nat} {l2 : List Nat}, xg_ch G x (l1 ++ y :: l2) ↔ (xg_ch G x (l1 ++ [y]) ∧ xg_ch G y l2) := by
  induction l1 with
  | nil =>
    intro x y l2
    exact ⟨fun h => ⟨⟨h.1, trivial⟩, h.2⟩, fun h => ⟨h.1.1, h.2⟩⟩
  | cons z l1 ih =>
    intro x y l2
    exact ⟨fun h => ⟨⟨h.1, (ih.mp h.2).1⟩, (ih.mp h.2).2⟩, fun h => ⟨h.1.1, ih.mpr ⟨h.1.2, h.2⟩⟩⟩
theorem xg_fr {G G' : Nat → Nat → Prop} {l : List Nat} : ∀ {x y : Nat}, xg_ch G x (l ++ [y]) → (∀ z z', z ∈ x :: l → z' ∈ l ++ [y] → G z z' → G' z z') → xg_ch G' x (l ++ [y]) := by
  induction l with
  | nil =>
    intro x y h h1
    exact ⟨h1 x y (List.mem_cons_self) (by simp) h.1, trivial⟩
  | cons z l ih =>
    intro x y h h1
    exact ⟨h1 x z (List.mem_cons_self) (by simp) h.1, ih h.2 (fun a b ha hb => h1 a b (List.mem_cons_of_mem _ ha) (by simp only [List.cons_append]; exact List.mem_cons_of_mem _ hb))⟩
theorem xg_end {G : Nat → Nat → Prop} {l : List Nat} : ∀ {x y y' : Nat}, xg_ch G x (l ++ [y]) → (∀ z, z ∈ x :: l → G z y → G z y') → xg_ch G x (l ++ [y']) := by
  induction l with
  | nil =>
    intro x y y' h h1
    exact ⟨h1 x (List.mem_cons_self) h.1, trivial⟩
  | cons z l ih =>
    intro x y y' h h1
    exact ⟨h.1, ih h.2 (fun a ha => h1 a (List.mem_cons_of_mem _ ha))⟩
theorem xg_lp_fr {G G' : Nat → Nat → Prop} {l : List Nat} (h : xg_lp G l) (h1 : ∀ z z', z ∈ l → z' ∈ l → G z z' → G' z z') : xg_lp G' l := by
  cases l with
  | nil => trivial
  | cons g tl =>
    refine xg_fr h (fun z z' hz hz' => h1 z z' hz ?_)
    rcases List.mem_append.mp hz' with h | h
    · exact List.mem_cons_of_mem _ h
    · rw [List.mem_singleton.mp h]; exact List.mem_cons_self
/-- what may stand as the glue of a loop's side from the number x to the number y -/
def xg_ok (m : Nat) (f : Nat → Nat) (b : Nat) (w : Int32) (x y : Nat) : Prop :=
  (w = -1 ∧ x < m ∧ y = (x + 1) % m) ∨ ∃ c, c < b ∧ w = nI c ∧ f c = y ∧ f (mq_nx c) = x
/-- what may stand as the corner across the side of c -/
def xg_Cor (m : Nat) (f : Nat → Nat) (b c : Nat) (w : Int32) : Prop := xg_ok m f b w (f c) (f (mq_nx c))
theorem xg_ok_mono {m : Nat} {f : Nat → Nat} {b b' : Nat} {w : Int32} {x y : Nat} (h : xg_ok m f b w x y) (hb : b ≤ b') : xg_ok m f b' w x y := by
  rcases h with h | ⟨c, hc, h⟩
  · exact Or.inl h
  · exact Or.inr ⟨c, by omega, h⟩
/-- the node step behind a step of numbers -/
theorem xn_rs_st {w p q t k : Nat} {NL : List (List Nat)} {s' : List (List Nat)} {nm : Nat → Nat} (h : mr_rs w p q t (NL.map (List.map nm)) s') :
    ∃ g a far NL' nc', xn_st w k g a far NL NL' nc' ∧ nm g = p ∧ nm a = q ∧ (w ≠ 0 → nm far = t) := by
  obtain ⟨tl, rest, e, h⟩ := h
  obtain ⟨l, restN, rfl, e1, rfl⟩ := List.map_eq_cons_iff.mp e
  obtain ⟨g, l', rfl, rfl, e2⟩ := List.map_eq_cons_iff.mp e1
  obtain ⟨a, tlN, rfl, rfl, e3⟩ := List.map_eq_cons_iff.mp e2
  rcases h with ⟨rfl, _⟩ | ⟨l1, l2, e4, h⟩
  · exact ⟨g, a, 0, _, _, ⟨tlN, restN, rfl, Or.inl ⟨rfl, rfl, rfl⟩⟩, rfl, rfl, fun z => absurd rfl z⟩
  · rw [e4] at e3
    obtain ⟨l1N, l2N, rfl, e5, e6⟩ := List.map_eq_append_iff.mp e3
    obtain ⟨far, l3N, rfl, e7, e8⟩ := List.map_eq_cons_iff.mp e6
    have n1 : l1N = [] ↔ l1 = [] := by rw [← e5]; simp
    have n2 : l3N = [] ↔ l2 = [] := by rw [← e8]; simp
    rcases h with ⟨rfl, h1, h2, _⟩ | ⟨rfl, h1, h2, _⟩ | ⟨rfl, h1, h2, _⟩ | ⟨rfl, h1, h2, _⟩
    · exact ⟨g, a, far, _, _, ⟨_, restN, rfl, Or.inr ⟨l1N, l3N, rfl, Or.inl ⟨rfl, n1.mpr h1, n2.mpr h2, rfl, rfl⟩⟩⟩, rfl, rfl, fun _ => e7⟩
    · exact ⟨g, a, far, _, _, ⟨_, restN, rfl, Or.inr ⟨l1N, l3N, rfl, Or.inr (Or.inl ⟨rfl, n1.mpr h1, fun z => h2 (n2.mp z), rfl, rfl⟩)⟩⟩, rfl, rfl, fun _ => e7⟩
    · exact ⟨g, a, far, _, _, ⟨_, restN, rfl, Or.inr ⟨l1N, l3N, rfl, Or.inr (Or.inr (Or.inl ⟨rfl, fun z => h1 (n1.mp z), n2.mpr h2, rfl, rfl⟩))⟩⟩, rfl, rfl, fun _ => e7⟩
    · exact ⟨g, a, far, _, _, ⟨_, restN, rfl, Or.inr ⟨l1N, l3N, rfl, Or.inr (Or.inr (Or.inr ⟨rfl, fun z => h1 (n1.mp z), fun z => h2 (n2.mp z), rfl, rfl⟩))⟩⟩, rfl, rfl, fun _ => e7⟩
/-- glue after a step, and which corners still wait -/
theorem xg_step {w k g a far nc' : Nat} {NL NL' : List (List Nat)} {G G' : Nat → Nat → Prop} (hst : xn_st w k g a far NL NL' nc') (hnd : NL.flatten.Nodup) (hlt : ∀ x, x ∈ NL.flatten → x < k) (hG : ∀ l, l ∈ NL → xg_lp G l)
    (h1 : ∀ z z', z < k → z' < k → z ≠ g → (w = 5 → z ≠ far) → G z z' → G' z z')
    (h2 : w = 0 → G' k a ∧ G' g k) (h3 : w = 4 → G' g far) (h4 : w = 5 → G' far a) (h5 : w = 6 → G' k a ∧ G' g far ∧ ∀ z, z < k → z ≠ g → G' z far → G' z k) : ∀ l, l ∈ NL' → xg_lp G' l := by
  obtain ⟨tl, rest, rfl, hst⟩ := hst
  rw [List.flatten_cons] at hnd hlt
  obtain ⟨a1, a2, a3⟩ := List.nodup_append.mp hnd
  have htop := hG _ (List.mem_cons_self)
  have hfar5 : w = 5 → far ∈ g :: a :: tl := by
    intro e
    rcases hst with ⟨z, _⟩ | ⟨l1, l2, rfl, _⟩
    · omega
    · simp
  have hrest : ∀ l, l ∈ rest → xg_lp G' l := by
    intro l hl
    refine xg_lp_fr (hG l (List.mem_cons_of_mem _ hl)) (fun z z' hz hz' => h1 z z' (hlt z (List.mem_append_right _ (List.mem_flatten_of_mem hl hz))) (hlt z' (List.mem_append_right _ (List.mem_flatten_of_mem hl hz'))) ?_ ?_)
    · rintro rfl
      exact a3 _ (List.mem_cons_self) _ (List.mem_flatten_of_mem hl hz) rfl
    · rintro e rfl
      exact a3 _ (hfar5 e) _ (List.mem_flatten_of_mem hl hz) rfl
  have hcons : ∀ (l : List Nat) (r : List (List Nat)), xg_lp G' l → (∀ l, l ∈ r → xg_lp G' l) → ∀ l', l' ∈ l :: r → xg_lp G' l' := by
    intro l r x y l' hl'
    rcases List.mem_cons.mp hl' with rfl | hl'
    · exact x
    · exact y l' hl'
  have lt' : ∀ x, x ∈ g :: a :: tl → x < k := fun x hx => hlt x (List.mem_append_left _ hx)
  rcases hst with ⟨rfl, rfl, rfl⟩ | ⟨l1, l2, rfl, hst⟩
  · refine hcons _ _ ?_ hrest
    have ht : xg_ch G a (tl ++ [g]) := htop.2
    simp only [List.nodup_cons, List.mem_cons, not_or] at a1
    refine ⟨(h2 rfl).1, ?_⟩
    show xg_ch G' a ((tl ++ [g]) ++ [k])
    rw [List.append_assoc]
    refine xg_app.mpr ⟨xg_fr ht (fun z z' hz hz' => ?_), (h2 rfl).2, trivial⟩
    refine h1 z z' (lt' z (by rcases List.mem_cons.mp hz with rfl | hz <;> simp [*])) (lt' z' (by rcases List.mem_append.mp hz' with hz' | hz' <;> simp_all)) ?_ (fun z => absurd z (by decide))
    rintro rfl
    rcases List.mem_cons.mp hz with e | hz
    · exact a1.1.1 e
    · exact a1.1.2 hz
  · have ht : xg_ch G a ((l1 ++ far :: l2) ++ [g]) := htop.2
    rw [List.append_assoc, List.cons_append] at ht
    obtain ⟨u1, u2⟩ := xg_app.mp ht
    obtain ⟨n1, n2, n3, n4, n5, n6, n7, n8, n9, n10, n11, n12⟩ := mr_nd_t a1
    have lg : g < k := lt' g (by simp)
    have la : a < k := lt' a (by simp)
    have lf : far < k := lt' far (by simp)
    have m1 : ∀ z, z ∈ l1 → z < k := fun z hz => lt' z (by simp [hz])
    have m2 : ∀ z, z ∈ l2 → z < k := fun z hz => lt' z (by simp [hz])
    have v1 : xg_ch G' a (l1 ++ [far]) := by
      refine xg_fr u1 (fun z z' hz hz' => h1 z z' ?_ ?_ ?_ ?_)
      · rcases List.mem_cons.mp hz with rfl | hz
        · exact la
        · exact m1 z hz
      · rcases List.mem_append.mp hz' with hz' | hz'
        · exact m1 z' hz'
        · rw [List.mem_singleton.mp hz']; exact lf
      · rintro rfl
        rcases List.mem_cons.mp hz with e | hz
        · exact n5 e
        · exact n6 hz
      · rintro _ rfl
        rcases List.mem_cons.mp hz with e | hz
        · exact n4 e
        · exact n1 hz
    have v2 : w ≠ 5 → xg_ch G' far (l2 ++ [g]) := by
      intro hw
      refine xg_fr u2 (fun z z' hz hz' => h1 z z' ?_ ?_ ?_ (fun e => absurd e hw))
      · rcases List.mem_cons.mp hz with rfl | hz
        · exact lf
        · exact m2 z hz
      · rcases List.mem_append.mp hz' with hz' | hz'
        · exact m2 z' hz'
        · rw [List.mem_singleton.mp hz']; exact lg
      · rintro rfl
        rcases List.mem_cons.mp hz with e | hz
        · exact n3 e.symm
        · exact n7 hz
    rcases hst with ⟨rfl, rfl, rfl, rfl, rfl⟩ | ⟨rfl, rfl, h6, rfl, rfl⟩ | ⟨rfl, h6, rfl, rfl, rfl⟩ | ⟨rfl, h6, h7, rfl, rfl⟩
    · exact hrest
    · exact hcons _ _ ⟨h3 rfl, v2 (by decide)⟩ hrest
    · exact hcons _ _ ⟨h4 rfl, v1⟩ hrest
    · refine hcons _ _ ⟨(h5 rfl).1, xg_end v1 (fun z hz => (h5 rfl).2.2 z ?_ ?_)⟩ (hcons _ _ ⟨(h5 rfl).2.1, v2 (by decide)⟩ hrest)
      · rcases List.mem_cons.mp hz with rfl | hz
        · exact la
        · exact m1 z hz
      · rintro rfl
        rcases List.mem_cons.mp hz with e | hz
        · exact n5 e
        · exact n6 hz
/-- the nodes that a step keeps -/
theorem xg_keep {w k g a far nc' : Nat} {NL NL' : List (List Nat)} (hst : xn_st w k g a far NL NL' nc') {x : Nat} (hx : x ∈ NL.flatten) :
    x ∈ NL'.flatten ∨ (w = 4 ∧ x = a) ∨ (w = 5 ∧ x = g) ∨ (w = 7 ∧ (x = g ∨ x = a ∨ x = far)) := by
  obtain ⟨tl, rest, rfl, hst⟩ := hst
  rw [List.flatten_cons] at hx
  rcases hst with ⟨rfl, rfl, rfl⟩ | ⟨l1, l2, rfl, ⟨rfl, rfl, rfl, rfl, rfl⟩ | ⟨rfl, rfl, h6, rfl, rfl⟩ | ⟨rfl, h6, rfl, rfl, rfl⟩ | ⟨rfl, h6, h7, rfl, rfl⟩⟩
  · simp only [List.flatten_cons, List.mem_append, List.mem_cons, List.not_mem_nil, or_false] at hx ⊢
    rcases hx with (h | h | h) | h <;> simp [h]
  · simp only [List.flatten_cons, List.mem_append, List.mem_cons, List.not_mem_nil, or_false, List.nil_append] at hx ⊢
    rcases hx with (h | h | h) | h <;> simp [h]
  · simp only [List.flatten_cons, List.mem_append, List.mem_cons, List.not_mem_nil, or_false, List.nil_append] at hx ⊢
    rcases hx with (h | h | h | h) | h <;> simp [h]
  · simp only [List.flatten_cons, List.mem_append, List.mem_cons, List.not_mem_nil, or_false] at hx ⊢
    rcases hx with (h | h | h | h) | h <;> simp [h]
  · simp only [List.flatten_cons, List.mem_append, List.mem_cons, List.not_mem_nil, or_false] at hx ⊢
    rcases hx with (h | h | h | h | h) | h <;> simp [h]
end
section
/-! decoding walks: farNode, link, linkUsedSides, glueNewSides -/
def xr_la : Nat → List Nat → Nat
  | x, [] => x
  | _, y :: l => xr_la y l
theorem xr_la_snoc (l : List Nat) : ∀ x y : Nat, xr_la x (l ++ [y]) = y := by
  induction l with
  | nil => intro x y; rfl
  | cons z l ih => intro x y; exact ih z y
def xr_le (m : Nat) (f : Nat → Nat) (B : Nat) (vo vo' : Nat → Int32) : Prop := ∀ c, vo' c = vo c ∨ xg_Cor m f B c (vo' c)
theorem xr_le_cor {m : Nat} {f : Nat → Nat} {B : Nat} {vo vo' : Nat → Int32} {c : Nat} (h : xr_le m f B vo vo') (hc : xg_Cor m f B c (vo c)) : xg_Cor m f B c (vo' c) := by
  rcases h c with e | e
  · rw [e]; exact hc
  · exact e
theorem xr_le_tr {m : Nat} {f : Nat → Nat} {B : Nat} {v1 v2 v3 : Nat → Int32} (h : xr_le m f B v1 v2) (h' : xr_le m f B v2 v3) : xr_le m f B v1 v3 := by
  intro c
  rcases h' c with e | e
  · rcases h c with e' | e'
    · exact Or.inl (e.trans e')
    · exact Or.inr (by rw [e]; exact e')
  · exact Or.inr e
section
variable {f_letterC f_letterR f_letterL f_letterS f_letterE f_triangleLimit f_vertexLimit f_slotCount f_draftCount f_bench f_bitsUsed f_nodeCount f_loopDepth f_boundaryCount f_numbered f_taken f_nextNumber f_viewCount : Int32} {a_draftName a_sideTable a_letterCount a_nodeName a_nodeNext a_nodePrev a_nodeGlue a_loopStack a_boundaryNext a_letters a_offsets a_lengths a_viewName a_viewOpposite : Nat → Int32} {a_packed : Nat → Int64}
theorem xr_walk {post : Int32 → Prop} {t o : Nat} (ht : t < 32) (ho : a_offsets t = nI o) (ho2 : o < 100) (l : List Nat) : ∀ (x i n : Nat), xn_ch a_nodeNext a_nodePrev x l → x < 64 → (∀ z, z ∈ l → z < 64) → i + l.length = o → l.length < n → post (nI (xr_la x l)) → wX_farNode_51 post (nI t) f_letterC f_letterR f_letterL f_letterS f_letterE f_triangleLimit f_vertexLimit f_slotCount f_draftCount f_bench f_bitsUsed f_nodeCount f_loopDepth f_boundaryCount f_numbered f_taken f_nextNumber f_viewCount a_draftName a_sideTable a_packed a_letterCount a_nodeName a_nodeNext a_nodePrev a_nodeGlue a_loopStack a_boundaryNext a_letters a_offsets a_lengths a_viewName a_viewOpposite n (nI x) (nI i) := by
  induction l with
  | nil =>
    intro x i n _ hx _ hi hn hp
    rw [List.length_nil] at hi hn
    obtain ⟨n, rfl⟩ : ∃ k, n = k + 1 := ⟨n - 1, by omega⟩
    rw [wX_farNode_51]
    dsimp only
    rw [nI_clamp (by omega), ho]
    exact ⟨vp_in_nI ht (by decide), br_t (nI_le (by omega) (by omega)) hp⟩
  | cons y l ih =>
    intro x i n hch hx hz hi hn hp
    rw [List.length_cons] at hi hn
    obtain ⟨n, rfl⟩ : ∃ k, n = k + 1 := ⟨n - 1, by omega⟩
    rw [wX_farNode_51]
    dsimp only
    rw [nI_clamp (by omega), nI_clamp (by omega), ho, hch.1.1]
    refine ⟨vp_in_nI ht (by decide), br_f (nI_ge (by omega) (by omega)) ⟨vp_in_nI hx (by decide), nm_e (nm_r (nI_1 i) ?_)⟩⟩
    exact ih y (i + 1) n hch.2 (hz y (List.mem_cons_self)) (fun z h => hz z (List.mem_cons_of_mem _ h)) (by omega) (by omega) hp
theorem xr_far {post : Int32 → Prop} {w t k g a far nc' : Nat} {NL NL' : List (List Nat)} (hst : xn_st w k g a far NL NL' nc') (hnd : xn_nd a_nodeNext a_nodePrev k NL) (hk : k ≤ 64) (ht : t < 32) (hl : a_letters t = nI w) (ho : w = 6 → a_offsets t = nI ((NL'.map List.length).headD 0))
    (h0 : w = 0 → post (-1)) (h1 : w ≠ 0 → far < k → post (nI far)) : wpX_farNode post (f_letterC, f_letterR, f_letterL, f_letterS, f_letterE, f_triangleLimit, f_vertexLimit, f_slotCount, f_draftCount, f_bench, f_bitsUsed, f_nodeCount, f_loopDepth, f_boundaryCount, f_numbered, f_taken, f_nextNumber, f_viewCount, a_draftName, a_sideTable, a_packed, a_letterCount, a_nodeName, a_nodeNext, a_nodePrev, a_nodeGlue, a_loopStack, a_boundaryNext, a_letters, a_offsets, a_lengths, a_viewName, a_viewOpposite) (nI t) (nI g) := by
  obtain ⟨tl, rest, rfl, hst⟩ := hst
  obtain ⟨t1, t2, t3, t4, t5, t6, t7, t8⟩ := xn_top hnd
  have hg : g < 64 := Nat.lt_of_lt_of_le (t4 g (by simp)) hk
  have ha : a < 64 := Nat.lt_of_lt_of_le (t4 a (by simp)) hk
  unfold wpX_farNode
  dsimp only
  rw [nI_clamp (by omega), hl, nI_clamp (by omega), t6.1, nI_clamp (by omega)]
  refine ⟨vp_in_nI ht (by decide), nm_e ?_⟩
  rcases hst with ⟨rfl, rfl, rfl⟩ | ⟨l1, l2, rfl, hst⟩
  · exact br_t rfl (h0 rfl)
  · have hf : far < k := t4 far (by simp)
    rcases hst with ⟨rfl, rfl, rfl, rfl, rfl⟩ | ⟨rfl, rfl, h6, rfl, rfl⟩ | ⟨rfl, h6, rfl, rfl, rfl⟩ | ⟨rfl, h6, h7, rfl, rfl⟩
    · have e : a_nodePrev g = nI far := t7.2.1.2
      refine br_f (by decide) (br_f (by decide) (br_f (by decide) ⟨vp_in_nI hg (by decide), ?_⟩))
      rw [e]
      exact h1 (by decide) hf
    · have e : a_nodeNext a = nI far := t7.1.1
      refine br_f (by decide) (br_f (by decide) (br_t rfl ⟨vp_in_nI hg (by decide), vp_in_nI ha (by decide), ?_⟩))
      rw [e]
      exact h1 (by decide) hf
    · rw [List.append_assoc] at t7
      have e : a_nodePrev g = nI far := ((xn_ch_app (l2 := [g])).mp t7).2.1.2
      refine br_f (by decide) (br_f (by decide) (br_f (by decide) ⟨vp_in_nI hg (by decide), ?_⟩))
      rw [e]
      exact h1 (by decide) hf
    · rw [List.append_assoc, List.cons_append] at t7
      have u1 := (xn_ch_app.mp t7).1
      have hlen := mb_nodup_lt t1 (fun z hz => Nat.lt_of_lt_of_le (t4 z hz) hk)
      simp only [List.length_cons, List.length_append] at hlen
      have ho' := ho rfl
      simp only [List.map_cons, List.length_cons, List.headD_cons] at ho'
      refine br_f (by decide) (br_t rfl ⟨l1.length + 3, ?_⟩)
      refine xr_walk (l := a :: (l1 ++ [far])) ht ho' (by omega) g 0 _ ⟨t6, u1⟩ hg ?_ ?_ ?_ ?_
      · intro z hz
        refine Nat.lt_of_lt_of_le (t4 z ?_) hk
        simp only [List.mem_cons, List.mem_append, List.not_mem_nil, or_false] at hz ⊢
        rcases hz with h | h | h <;> simp [h]
      · simp only [List.length_cons, List.length_append, List.length_nil]; omega
      · simp only [List.length_cons, List.length_append, List.length_nil]; omega
      · show post (nI (xr_la a (l1 ++ [far])))
        rw [xr_la_snoc]
        exact h1 (by decide) hf
theorem xr_link {post : SX → Prop} {m c B b : Nat} {f : Nat → Nat} {w : Int32} (hB : B ≤ 96) (hc : c < B) (hb : b ≤ B) (hok : xg_ok m f b w (f c) (f (mq_nx c)))
    (h : ∀ vo : Nat → Int32, xr_le m f B a_viewOpposite vo → xg_Cor m f B c (vo c) → (∀ c', c' < 96 → w = nI c' → xg_Cor m f B c' (vo c')) → post (f_letterC, f_letterR, f_letterL, f_letterS, f_letterE, f_triangleLimit, f_vertexLimit, f_slotCount, f_draftCount, f_bench, f_bitsUsed, f_nodeCount, f_loopDepth, f_boundaryCount, f_numbered, f_taken, f_nextNumber, f_viewCount, a_draftName, a_sideTable, a_packed, a_letterCount, a_nodeName, a_nodeNext, a_nodePrev, a_nodeGlue, a_loopStack, a_boundaryNext, a_letters, a_offsets, a_lengths, a_viewName, vo)) : wpX_link post (f_letterC, f_letterR, f_letterL, f_letterS, f_letterE, f_triangleLimit, f_vertexLimit, f_slotCount, f_draftCount, f_bench, f_bitsUsed, f_nodeCount, f_loopDepth, f_boundaryCount, f_numbered, f_taken, f_nextNumber, f_viewCount, a_draftName, a_sideTable, a_packed, a_letterCount, a_nodeName, a_nodeNext, a_nodePrev, a_nodeGlue, a_loopStack, a_boundaryNext, a_letters, a_offsets, a_lengths, a_viewName, a_viewOpposite) (nI c) w := by
  unfold wpX_link
  dsimp only
  rw [nI_clamp (by omega)]
  refine ⟨vp_in_nI (by omega) (by decide), nm_e ?_⟩
  have hcor : xg_Cor m f B c w := xg_ok_mono hok hb
  rcases hok with ⟨rfl, hx⟩ | ⟨c', hc', rfl, e1, e2⟩
  · refine br_t ar_lg (h _ (fun c'' => ?_) ?_ (fun c' hc' z => ?_))
    · by_cases e : c'' = c
      · rw [e, pk_us]; exact Or.inr hcor
      · rw [pk_un e]; exact Or.inl rfl
    · rw [pk_us]; exact hcor
    · have := nI_pos (n := c') (by omega)
      rw [← z] at this
      exact absurd ar_lg this
  · have hcor' : xg_Cor m f B c' (nI c) := Or.inr ⟨c, hc, rfl, e2.symm, e1.symm⟩
    refine br_f (nI_pos (by omega)) ⟨vp_in_nI (by omega) (by decide), ?_⟩
    rw [nI_clamp (by omega)]
    refine nm_e (h _ (fun c'' => ?_) ?_ (fun c'' hc'' z => ?_))
    · by_cases e : c'' = c'
      · rw [e, pk_us]; exact Or.inr hcor'
      · rw [pk_un e]
        by_cases e' : c'' = c
        · rw [e', pk_us]; exact Or.inr hcor
        · rw [pk_un e']; exact Or.inl rfl
    · by_cases e : c = c'
      · subst e; rw [pk_us]; exact hcor
      · rw [pk_un e, pk_us]; exact hcor
    · rw [nI_eq (by omega) (by omega)] at z
      rw [← z, pk_us]
      exact hcor'
/-- linkUsedSides: the sides of the new triangle that lie on the loop meet what is across them -/
theorem xr_used {post : SX → Prop} {m B t w g a far : Nat} {f : Nat → Nat} (hB : B ≤ 96) (ht : 3 * t + 3 ≤ B) (hg : g < 64) (ha : a < 64) (hf : w = 5 ∨ w = 7 → far < 64 ∧ a_nodePrev g = nI far) (hga : a_nodeNext g = nI a) (hw : w < 8)
    (k0 : xg_ok m f (3 * t) (a_nodeGlue g) (f (3 * t)) (f (3 * t + 1))) (k1 : w = 4 ∨ w = 7 → xg_ok m f (3 * t) (a_nodeGlue a) (f (3 * t + 1)) (f (3 * t + 2))) (k2 : w = 5 ∨ w = 7 → xg_ok m f (3 * t) (a_nodeGlue far) (f (3 * t + 2)) (f (3 * t)))
    (h : ∀ vo : Nat → Int32, xr_le m f B a_viewOpposite vo → xg_Cor m f B (3 * t) (vo (3 * t)) → (∀ c', c' < 96 → a_nodeGlue g = nI c' → xg_Cor m f B c' (vo c')) →
      (w = 4 ∨ w = 7 → xg_Cor m f B (3 * t + 1) (vo (3 * t + 1)) ∧ ∀ c', c' < 96 → a_nodeGlue a = nI c' → xg_Cor m f B c' (vo c')) →
      (w = 5 ∨ w = 7 → xg_Cor m f B (3 * t + 2) (vo (3 * t + 2)) ∧ ∀ c', c' < 96 → a_nodeGlue far = nI c' → xg_Cor m f B c' (vo c')) → post (f_letterC, f_letterR, f_letterL, f_letterS, f_letterE, f_triangleLimit, f_vertexLimit, f_slotCount, f_draftCount, f_bench, f_bitsUsed, f_nodeCount, f_loopDepth, f_boundaryCount, f_numbered, f_taken, f_nextNumber, f_viewCount, a_draftName, a_sideTable, a_packed, a_letterCount, a_nodeName, a_nodeNext, a_nodePrev, a_nodeGlue, a_loopStack, a_boundaryNext, a_letters, a_offsets, a_lengths, a_viewName, vo)) :
    wpX_linkUsedSides post (f_letterC, f_letterR, f_letterL, f_letterS, f_letterE, f_triangleLimit, f_vertexLimit, f_slotCount, f_draftCount, f_bench, f_bitsUsed, f_nodeCount, f_loopDepth, f_boundaryCount, f_numbered, f_taken, f_nextNumber, f_viewCount, a_draftName, a_sideTable, a_packed, a_letterCount, a_nodeName, a_nodeNext, a_nodePrev, a_nodeGlue, a_loopStack, a_boundaryNext, a_letters, a_offsets, a_lengths, a_viewName, a_viewOpposite) (nI t) (nI w) (nI g) := by
  have e4 : (nI w = 4) ↔ w = 4 := nI_eq (b := 4) (by omega) (by decide)
  have e5 : (nI w = 5) ↔ w = 5 := nI_eq (b := 5) (by omega) (by decide)
  have e7 : (nI w = 7) ↔ w = 7 := nI_eq (b := 7) (by omega) (by decide)
  unfold wpX_linkUsedSides
  dsimp only
  rw [ar_3, nI_clamp (by omega)]
  refine ⟨vp_in_nI hg (by decide), ?_⟩
  refine xr_link (m := m) (f := f) (b := 3 * t) hB (by omega) (by omega) (by rw [mq_0]; exact k0) (fun v1 l1 c1 g1 => ?_)
  dsimp only
  have last : ∀ v2 : Nat → Int32, xr_le m f B v1 v2 → (w = 4 ∨ w = 7 → xg_Cor m f B (3 * t + 1) (v2 (3 * t + 1)) ∧ ∀ c', c' < 96 → a_nodeGlue a = nI c' → xg_Cor m f B c' (v2 c')) →
      wX_linkUsedSides_44 post (nI t) (nI w) (nI g) f_letterC f_letterR f_letterL f_letterS f_letterE f_triangleLimit f_vertexLimit f_slotCount f_draftCount f_bench f_bitsUsed f_nodeCount f_loopDepth f_boundaryCount f_numbered f_taken f_nextNumber f_viewCount a_draftName a_sideTable a_packed a_letterCount a_nodeName a_nodeNext a_nodePrev a_nodeGlue a_loopStack a_boundaryNext a_letters a_offsets a_lengths a_viewName v2 := by
    intro v2 l2 c2
    unfold wX_linkUsedSides_44
    by_cases h57 : w = 5 ∨ w = 7
    · obtain ⟨f1, f2⟩ := hf h57
      have go : wX_linkUsedSides_55 post (nI t) (nI g) f_letterC f_letterR f_letterL f_letterS f_letterE f_triangleLimit f_vertexLimit f_slotCount f_draftCount f_bench f_bitsUsed f_nodeCount f_loopDepth f_boundaryCount f_numbered f_taken f_nextNumber f_viewCount a_draftName a_sideTable a_packed a_letterCount a_nodeName a_nodeNext a_nodePrev a_nodeGlue a_loopStack a_boundaryNext a_letters a_offsets a_lengths a_viewName v2 := by
        unfold wX_linkUsedSides_55
        rw [nI_clamp (by omega), f2, nI_clamp (by omega), ar_3, ar_a2]
        refine ⟨vp_in_nI hg (by decide), vp_in_nI f1 (by decide), ?_⟩
        refine xr_link (m := m) (f := f) (b := 3 * t) hB (by omega) (by omega) (by rw [mq_2]; exact k2 h57) (fun v3 l3 c3 g3 => ?_)
        have l13 := xr_le_tr (xr_le_tr l1 l2) l3
        refine h v3 l13 (xr_le_cor l3 (xr_le_cor l2 c1)) (fun c' a1 a2 => xr_le_cor l3 (xr_le_cor l2 (g1 c' a1 a2))) (fun z => ⟨xr_le_cor l3 (c2 z).1, fun c' a1 a2 => xr_le_cor l3 ((c2 z).2 c' a1 a2)⟩) (fun _ => ⟨c3, g3⟩)
      refine br_c (fun _ => go) (fun n5 => br_t ?_ go)
      rw [e7]
      rw [e5] at n5
      omega
    · refine br_f (fun z => h57 (Or.inl (e5.mp z))) (br_f (fun z => h57 (Or.inr (e7.mp z))) ?_)
      exact h v2 (xr_le_tr l1 l2) (xr_le_cor l2 c1) (fun c' a1 a2 => xr_le_cor l2 (g1 c' a1 a2)) c2 (fun z => absurd z h57)
  by_cases h47 : w = 4 ∨ w = 7
  · have go : wX_linkUsedSides_24 post (nI t) (nI w) (nI g) f_letterC f_letterR f_letterL f_letterS f_letterE f_triangleLimit f_vertexLimit f_slotCount f_draftCount f_bench f_bitsUsed f_nodeCount f_loopDepth f_boundaryCount f_numbered f_taken f_nextNumber f_viewCount a_draftName a_sideTable a_packed a_letterCount a_nodeName a_nodeNext a_nodePrev a_nodeGlue a_loopStack a_boundaryNext a_letters a_offsets a_lengths a_viewName v1 := by
      unfold wX_linkUsedSides_24
      rw [nI_clamp (by omega), hga, nI_clamp (by omega), ar_3, nI_1]
      refine ⟨vp_in_nI hg (by decide), vp_in_nI ha (by decide), ?_⟩
      refine xr_link (m := m) (f := f) (b := 3 * t) hB (by omega) (by omega) (by rw [mq_1]; exact k1 h47) (fun v2 l2 c2 g2 => ?_)
      exact last v2 l2 (fun _ => ⟨c2, g2⟩)
    refine br_c (fun _ => go) (fun n4 => br_t ?_ go)
    rw [e7]
    rw [e4] at n4
    omega
  · refine br_f (fun z => h47 (Or.inl (e4.mp z))) (br_f (fun z => h47 (Or.inr (e7.mp z))) ?_)
    exact last v1 (fun _ => Or.inl rfl) (fun z => absurd z h47)
/-- glueNewSides: the sides that the triangle leaves on the loops have it across them -/
theorem xr_glue {post : SX → Prop} {t w g top dp : Nat} (ht : t < 32) (hw : mr_let w) (hg : g < 64) (hd : w = 0 ∨ w = 5 ∨ w = 6 → f_loopDepth = nI (dp + 1) ∧ dp < 64 ∧ a_loopStack dp = nI top ∧ top < 64) (hgt : w = 0 ∨ w = 6 → g ≠ top)
    (h : ∀ gl : Nat → Int32, (w = 0 ∨ w = 4 ∨ w = 6 → gl g = nI (3 * t + 2)) → (w = 0 ∨ w = 5 ∨ w = 6 → gl top = nI (3 * t + 1)) → (∀ x, (w = 0 ∨ w = 4 ∨ w = 6 → x ≠ g) → (w = 0 ∨ w = 5 ∨ w = 6 → x ≠ top) → gl x = a_nodeGlue x) → post (f_letterC, f_letterR, f_letterL, f_letterS, f_letterE, f_triangleLimit, f_vertexLimit, f_slotCount, f_draftCount, f_bench, f_bitsUsed, f_nodeCount, f_loopDepth, f_boundaryCount, f_numbered, f_taken, f_nextNumber, f_viewCount, a_draftName, a_sideTable, a_packed, a_letterCount, a_nodeName, a_nodeNext, a_nodePrev, gl, a_loopStack, a_boundaryNext, a_letters, a_offsets, a_lengths, a_viewName, a_viewOpposite)) :
    wpX_glueNewSides post (f_letterC, f_letterR, f_letterL, f_letterS, f_letterE, f_triangleLimit, f_vertexLimit, f_slotCount, f_draftCount, f_bench, f_bitsUsed, f_nodeCount, f_loopDepth, f_boundaryCount, f_numbered, f_taken, f_nextNumber, f_viewCount, a_draftName, a_sideTable, a_packed, a_letterCount, a_nodeName, a_nodeNext, a_nodePrev, a_nodeGlue, a_loopStack, a_boundaryNext, a_letters, a_offsets, a_lengths, a_viewName, a_viewOpposite) (nI t) (nI w) (nI g) := by
  have h41 : ∀ gl1 : Nat → Int32, (w = 0 ∨ w = 5 ∨ w = 6) → (∀ gl : Nat → Int32, gl = upd gl1 top (nI (3 * t + 1)) → post (f_letterC, f_letterR, f_letterL, f_letterS, f_letterE, f_triangleLimit, f_vertexLimit, f_slotCount, f_draftCount, f_bench, f_bitsUsed, f_nodeCount, f_loopDepth, f_boundaryCount, f_numbered, f_taken, f_nextNumber, f_viewCount, a_draftName, a_sideTable, a_packed, a_letterCount, a_nodeName, a_nodeNext, a_nodePrev, gl, a_loopStack, a_boundaryNext, a_letters, a_offsets, a_lengths, a_viewName, a_viewOpposite)) → wX_glueNewSides_41 post (nI t) f_letterC f_letterR f_letterL f_letterS f_letterE f_triangleLimit f_vertexLimit f_slotCount f_draftCount f_bench f_bitsUsed f_nodeCount f_loopDepth f_boundaryCount f_numbered f_taken f_nextNumber f_viewCount a_draftName a_sideTable a_packed a_letterCount a_nodeName a_nodeNext a_nodePrev gl1 a_loopStack a_boundaryNext a_letters a_offsets a_lengths a_viewName a_viewOpposite := by
    intro gl1 hz hp
    obtain ⟨rfl, d2, d3, d4⟩ := hd hz
    unfold wX_glueNewSides_41
    rw [nI_pred, nI_clamp (by omega), d3, nI_clamp (by omega), ar_3, nI_1]
    exact ⟨vp_in_nI d2 (by decide), vp_in_nI d4 (by decide), fun gl e => hp gl e⟩
  have h15 : ∀ K : (Nat → Int32) → Prop, (∀ gl : Nat → Int32, gl = upd a_nodeGlue g (nI (3 * t + 2)) → wX_glueNewSides_26 post (nI t) (nI w) f_letterC f_letterR f_letterL f_letterS f_letterE f_triangleLimit f_vertexLimit f_slotCount f_draftCount f_bench f_bitsUsed f_nodeCount f_loopDepth f_boundaryCount f_numbered f_taken f_nextNumber f_viewCount a_draftName a_sideTable a_packed a_letterCount a_nodeName a_nodeNext a_nodePrev gl a_loopStack a_boundaryNext a_letters a_offsets a_lengths a_viewName a_viewOpposite) → wX_glueNewSides_15 post (nI t) (nI w) (nI g) f_letterC f_letterR f_letterL f_letterS f_letterE f_triangleLimit f_vertexLimit f_slotCount f_draftCount f_bench f_bitsUsed f_nodeCount f_loopDepth f_boundaryCount f_numbered f_taken f_nextNumber f_viewCount a_draftName a_sideTable a_packed a_letterCount a_nodeName a_nodeNext a_nodePrev a_nodeGlue a_loopStack a_boundaryNext a_letters a_offsets a_lengths a_viewName a_viewOpposite := by
    intro _ hp
    unfold wX_glueNewSides_15
    rw [ar_3, ar_a2, nI_clamp (by omega)]
    exact ⟨vp_in_nI hg (by decide), fun gl e => hp gl e⟩
  unfold wpX_glueNewSides
  dsimp only
  rcases hw with rfl | rfl | rfl | rfl | rfl
  · refine br_t rfl (h15 (fun _ => True) (fun gl e => ?_))
    unfold wX_glueNewSides_26
    refine br_t rfl (h41 gl (Or.inl rfl) (fun gl' e' => h gl' ?_ ?_ ?_))
    · intro _; rw [e', pk_un (hgt (Or.inl rfl)), e, pk_us]
    · intro _; rw [e', pk_us]
    · intro x a1 a2; rw [e', pk_un (a2 (Or.inl rfl)), e, pk_un (a1 (Or.inl rfl))]
  · refine br_f (by decide) (br_t rfl (h15 (fun _ => True) (fun gl e => ?_)))
    unfold wX_glueNewSides_26
    refine br_f (by decide) (br_f (by decide) (br_f (by decide) (h gl ?_ ?_ ?_)))
    · intro _; rw [e, pk_us]
    · intro z; exact absurd z (by decide)
    · intro x a1 _; rw [e, pk_un (a1 (Or.inr (Or.inl rfl)))]
  · refine br_f (by decide) (br_f (by decide) (br_f (by decide) ?_))
    unfold wX_glueNewSides_26
    refine br_f (by decide) (br_t rfl (h41 a_nodeGlue (Or.inr (Or.inl rfl)) (fun gl' e' => h gl' ?_ ?_ ?_)))
    · intro z; exact absurd z (by decide)
    · intro _; rw [e', pk_us]
    · intro x _ a2; rw [e', pk_un (a2 (Or.inr (Or.inl rfl)))]
  · refine br_f (by decide) (br_f (by decide) (br_t rfl (h15 (fun _ => True) (fun gl e => ?_))))
    unfold wX_glueNewSides_26
    refine br_f (by decide) (br_f (by decide) (br_t rfl (h41 gl (Or.inr (Or.inr rfl)) (fun gl' e' => h gl' ?_ ?_ ?_))))
    · intro _; rw [e', pk_un (hgt (Or.inr rfl)), e, pk_us]
    · intro _; rw [e', pk_us]
    · intro x a1 a2; rw [e', pk_un (a2 (Or.inr (Or.inr rfl))), e, pk_un (a1 (Or.inr (Or.inr rfl)))]
  · refine br_f (by decide) (br_f (by decide) (br_f (by decide) ?_))
    unfold wX_glueNewSides_26
    refine br_f (by decide) (br_f (by decide) (br_f (by decide) (h a_nodeGlue ?_ ?_ ?_)))
    · intro z; exact absurd z (by decide)
    · intro z; exact absurd z (by decide)
    · intro x _ _; rfl
end
end
section
/-! layTriangle and rebuild -/
def xr_R (T : List (Nat × Nat × Nat)) (m t : Nat) (s : List (List Nat)) (v : Nat) (nc ld nn : Int32) (nN nx pv gl st vN vO : Nat → Int32) : Prop :=
  ∃ (NL : List (List Nat)) (k : Nat) (nm : Nat → Nat), s = NL.map (List.map nm) ∧ xn_nd nx pv k NL ∧ nc = nI k ∧ ld = nI NL.length ∧ xn_sk st NL ∧ (∀ x, x < k → nN x = nI (nm x)) ∧ k ≤ v + t ∧ nn = nI v ∧ (∀ c, c < 3 * t → vN c = nI (mr_fl T c)) ∧
    (∀ l, l ∈ NL → xg_lp (fun x y => xg_ok m (mr_fl T) (3 * t) (gl x) (nm x) (nm y)) l) ∧
    (∀ c, c < 3 * t → xg_Cor m (mr_fl T) (3 * T.length) c (vO c) ∨ ∃ x, x ∈ NL.flatten ∧ gl x = nI c)
section
variable {f_letterC f_letterR f_letterL f_letterS f_letterE f_triangleLimit f_vertexLimit f_slotCount f_draftCount f_bench f_bitsUsed f_nodeCount f_loopDepth f_boundaryCount f_numbered f_taken f_nextNumber f_viewCount : Int32} {a_draftName a_sideTable a_letterCount a_nodeName a_nodeNext a_nodePrev a_nodeGlue a_loopStack a_boundaryNext a_letters a_offsets a_lengths a_viewName a_viewOpposite : Nat → Int32} {a_packed : Nat → Int64}
theorem xr_lay {post : SX → Prop} {T : List (Nat × Nat × Nat)} {m t w v v' : Nat} {s s' : List (List Nat)} (hT : T.length ≤ 32) (ht : t < T.length) (hv' : v' ≤ 32) (hiv : mr_iv (· < v) s)
    (hrs : mr_rs w (mr_fl T (3 * t)) (mr_fl T (3 * t + 1)) (mr_fl T (3 * t + 2)) s s') (hnum : mr_num w (mr_fl T (3 * t + 2)) v v') (hl : a_letters t = nI w) (ho : w = 6 → a_offsets t = nI ((s'.map List.length).headD 0))
    (hR : xr_R T m t s v f_nodeCount f_loopDepth f_nextNumber a_nodeName a_nodeNext a_nodePrev a_nodeGlue a_loopStack a_viewName a_viewOpposite)
    (h : ∀ (nc ld nn : Int32) (nN nx pv gl st vN vO : Nat → Int32), xr_R T m (t + 1) s' v' nc ld nn nN nx pv gl st vN vO → post (f_letterC, f_letterR, f_letterL, f_letterS, f_letterE, f_triangleLimit, f_vertexLimit, f_slotCount, f_draftCount, f_bench, f_bitsUsed, nc, ld, f_boundaryCount, f_numbered, f_taken, nn, f_viewCount, a_draftName, a_sideTable, a_packed, a_letterCount, nN, nx, pv, gl, st, a_boundaryNext, a_letters, a_offsets, a_lengths, vN, vO)) :
    wpX_layTriangle post (f_letterC, f_letterR, f_letterL, f_letterS, f_letterE, f_triangleLimit, f_vertexLimit, f_slotCount, f_draftCount, f_bench, f_bitsUsed, f_nodeCount, f_loopDepth, f_boundaryCount, f_numbered, f_taken, f_nextNumber, f_viewCount, a_draftName, a_sideTable, a_packed, a_letterCount, a_nodeName, a_nodeNext, a_nodePrev, a_nodeGlue, a_loopStack, a_boundaryNext, a_letters, a_offsets, a_lengths, a_viewName, a_viewOpposite) (nI t) := by
  obtain ⟨NL, k, nm, rfl, hnd, rfl, rfl, hsk, hnm, hk, rfl, hvN, hGL, hvO⟩ := hR
  have hvv : v ≤ v' ∧ (w = 0 → v' = v + 1 ∧ mr_fl T (3 * t + 2) = v) ∧ (w ≠ 0 → v' = v) := by
    rcases hnum with ⟨a, b, c⟩ | ⟨a, b, c⟩
    · exact ⟨by omega, fun _ => ⟨c, b⟩, fun z => absurd a z⟩
    · exact ⟨by omega, fun z => absurd z a, fun _ => c⟩
  obtain ⟨g, a, far, NL', nc', hst, eg, ea, ef⟩ := xn_rs_st (k := k) hrs
  have hlt := hnd.2.2
  obtain ⟨hlet, hnc⟩ := xn_st_nc hst
  have h3 : ∀ l, l ∈ NL → 3 ≤ l.length := by
    intro l hl
    have := (hiv (l.map nm) (List.mem_map_of_mem hl)).2.1
    rwa [List.length_map] at this
  have hdep : NL.length < 63 := by
    have a := xn_depth h3
    have b := mb_nodup_lt hnd.2.1 hnd.2.2
    omega
  -- the names of the new loops
  have hs' : ∀ nm' : Nat → Nat, (∀ x, x < k → nm' x = nm x) → (w = 0 ∨ w = 6 → nm' k = mr_fl T (3 * t + 2)) → s' = NL'.map (List.map nm') := by
    intro nm' a1 a2
    have r := xn_st_rs hst hlt a1 a2 ef
    rw [eg, ea] at r
    exact (mr_rs_det2 hrs r Iff.rfl (fun l hl => (hiv l hl).1)).2
  have hst0 := hst
  obtain ⟨tl, rest, rfl, hcase⟩ := hst
  obtain ⟨t1, t2, t3, t4, t5, t6, t7, t8⟩ := xn_top hnd
  rw [List.length_cons] at hdep
  have hk64 : k ≤ 64 := by omega
  have hg : g < 64 := Nat.lt_of_lt_of_le (t4 g (by simp)) hk64
  have haa : a < 64 := Nat.lt_of_lt_of_le (t4 a (by simp)) hk64
  have ng := hnm g (t4 g (by simp))
  have na := hnm a (t4 a (by simp))
  have hg0 : a_loopStack rest.length = nI g := hsk.1
  have hfar : w ≠ 0 → far ∈ tl := by
    intro hw
    rcases hcase with ⟨z, _⟩ | ⟨l1, l2, rfl, _⟩
    · exact absurd z hw
    · simp
  have hGtop := hGL _ (List.mem_cons_self)
  have k0 : xg_ok m (mr_fl T) (3 * t) (a_nodeGlue g) (mr_fl T (3 * t)) (mr_fl T (3 * t + 1)) := by
    have := hGtop.1
    dsimp only at this
    rw [eg, ea] at this
    exact this
  have k1 : w = 4 ∨ w = 7 → xg_ok m (mr_fl T) (3 * t) (a_nodeGlue a) (mr_fl T (3 * t + 1)) (mr_fl T (3 * t + 2)) := by
    intro hz
    have hw : w ≠ 0 := by omega
    have : ∃ l2, tl = far :: l2 := by
      rcases hcase with ⟨z, _⟩ | ⟨l1, l2, rfl, ⟨_, rfl, _⟩ | ⟨_, rfl, _⟩ | ⟨z, _⟩ | ⟨z, _⟩⟩
      · exact absurd z hw
      · exact ⟨l2, rfl⟩
      · exact ⟨l2, rfl⟩
      · omega
      · omega
    obtain ⟨l2, rfl⟩ := this
    have := hGtop.2.1
    dsimp only at this
    rw [ea, ef hw] at this
    exact this
  have k2' : w = 5 ∨ w = 7 → (xg_ok m (mr_fl T) (3 * t) (a_nodeGlue far) (mr_fl T (3 * t + 2)) (mr_fl T (3 * t)) ∧ a_nodePrev g = nI far) := by
    intro hz
    have hw : w ≠ 0 := by omega
    have : ∃ l1, tl = l1 ++ [far] := by
      rcases hcase with ⟨z, _⟩ | ⟨l1, l2, rfl, ⟨_, _, rfl, _⟩ | ⟨z, _⟩ | ⟨_, _, rfl, _⟩ | ⟨z, _⟩⟩
      · exact absurd z hw
      · exact ⟨l1, rfl⟩
      · omega
      · exact ⟨l1, rfl⟩
      · omega
    obtain ⟨l1, rfl⟩ := this
    have c1 := t7
    rw [List.append_assoc] at c1
    have c2 : xg_ch _ a ((l1 ++ [far]) ++ [g]) := hGtop.2
    rw [List.append_assoc] at c2
    have c3 := ((xg_app (l2 := [g])).mp c2).2.1
    dsimp only at c3
    rw [ef hw, eg] at c3
    exact ⟨c3, ((xn_ch_app (l2 := [g])).mp c1).2.1.2⟩
  have ho' : w = 6 → a_offsets t = nI ((NL'.map List.length).headD 0) := by
    intro hw
    rw [ho hw, hs' (fun x => if x = k then mr_fl T (3 * t + 2) else nm x) (fun x hx => if_neg (by omega)) (fun _ => if_pos rfl)]
    simp only [List.map_map]
    congr 2
    refine List.map_congr_left (fun l _ => ?_)
    simp
  have fin : ∀ p2 : Int32, (w ≠ 0 → p2 = nI far) → wX_layTriangle_56 post (nI t) (nI g) (nI w) p2 (nI (mr_fl T (3 * t + 2))) f_letterC f_letterR f_letterL f_letterS f_letterE f_triangleLimit f_vertexLimit f_slotCount f_draftCount f_bench f_bitsUsed (nI k) (nI rest.length) f_boundaryCount f_numbered f_taken (nI v') f_viewCount a_draftName a_sideTable a_packed a_letterCount a_nodeName a_nodeNext a_nodePrev a_nodeGlue a_loopStack a_boundaryNext a_letters a_offsets a_lengths a_viewName a_viewOpposite := by
    intro p2 hp2
    unfold wX_layTriangle_56
    rw [ar_3, nI_1 (3 * t), ar_a2, nI_clamp (by omega), nI_clamp (by omega), nI_clamp (by omega), nI_clamp (by omega), t6.1, nI_clamp (by omega), ng, na, eg, ea]
    refine ⟨vp_in_nI hg (by decide), vp_in_nI (by omega) (by decide), nm_e ⟨vp_in_nI hg (by decide), vp_in_nI haa (by decide), vp_in_nI (by omega) (by decide), nm_e ⟨vp_in_nI (by omega) (by decide), nm_e ?_⟩⟩⟩
    have hw8 : w < 8 := by rcases hlet with rfl | rfl | rfl | rfl | rfl <;> decide
    refine xr_used (m := m) (f := mr_fl T) (B := 3 * T.length) (a := a) (far := far) (by omega) (by omega) hg haa (fun z => ⟨Nat.lt_of_lt_of_le (t4 far (by simp [hfar (by omega)])) hk64, (k2' z).2⟩) t6.1 hw8 k0 k1 (fun z => (k2' z).1) (fun vo l1 c0 g0 c1 c2 => ?_)
    dsimp only
    refine xw_rew hst0 hnd rfl hk64 (fun z => ?_) rfl hsk.2 (by rw [List.length_cons]; omega) hp2 (fun nx pv st nN nG hnd' hsk' hN1 hN2 hG => ?_)
    · rcases z with z | z
      · have := (hvv.2.1 z).1; omega
      · have := hvv.2.2 (by omega); omega
    dsimp only
    -- the top of the new stack
    have htop : w = 0 ∨ w = 5 ∨ w = 6 → ∃ top dp, NL'.length = dp + 1 ∧ dp < 64 ∧ st dp = nI top ∧ top < 64 ∧ top ∈ NL'.flatten ∧ ((w = 5 ∧ top = far) ∨ ((w = 0 ∨ w = 6) ∧ top = k)) := by
      intro hz
      rcases hcase with ⟨rfl, rfl, rfl⟩ | ⟨l1, l2, rfl, ⟨rfl, _⟩ | ⟨rfl, _⟩ | ⟨rfl, _, rfl, rfl, rfl⟩ | ⟨rfl, _, _, rfl, rfl⟩⟩
      · have := (hvv.2.1 rfl).1
        exact ⟨k, rest.length, rfl, by omega, hsk'.1, by omega, by simp, Or.inr ⟨Or.inl rfl, rfl⟩⟩
      · omega
      · omega
      · exact ⟨far, rest.length, rfl, by omega, hsk'.1, Nat.lt_of_lt_of_le (t4 far (by simp)) hk64, by simp, Or.inl ⟨rfl, rfl⟩⟩
      · have := hvv.2.2 (by decide)
        exact ⟨k, rest.length + 1, rfl, by omega, hsk'.1, by omega, by simp, Or.inr ⟨Or.inr rfl, rfl⟩⟩
    have htop2 : ∃ top dp, w = 0 ∨ w = 5 ∨ w = 6 → NL'.length = dp + 1 ∧ dp < 64 ∧ st dp = nI top ∧ top < 64 ∧ top ∈ NL'.flatten ∧ ((w = 5 ∧ top = far) ∨ ((w = 0 ∨ w = 6) ∧ top = k)) := by
      by_cases hz : w = 0 ∨ w = 5 ∨ w = 6
      · obtain ⟨top, dp, q⟩ := htop hz
        exact ⟨top, dp, fun _ => q⟩
      · exact ⟨0, 0, fun z => absurd z hz⟩
    obtain ⟨top, dp, hq⟩ := htop2
    refine xr_glue (top := top) (dp := dp) (by omega) hlet hg (fun z => ?_) (fun z => ?_) (fun gl q1 q2 q3 => ?_)
    · obtain ⟨a1, a2, a3, a4, _⟩ := hq z
      exact ⟨by rw [a1], a2, a3, a4⟩
    · obtain ⟨_, _, _, _, _, a6⟩ := hq (by omega)
      have := t4 g (by simp)
      omega
    -- the new relation
    dsimp only
    refine h _ _ _ _ _ _ _ _ _ _ ?_
    have nmk : ∀ x, x < k → (if x = k then mr_fl T (3 * t + 2) else nm x) = nm x := fun x hx => if_neg (by omega)
    have e3t : 3 * (t + 1) = 3 * t + 3 := by omega
    have gfr : ∀ x, x < k → x ≠ g → (w = 5 → x ≠ far) → gl x = a_nodeGlue x := by
      intro x hx1 hx2 hx3
      rw [q3 x (fun _ => hx2) (fun z => ?_)]
      · exact hG x hx1
      · obtain ⟨_, _, _, _, _, a6⟩ := hq z
        rcases a6 with ⟨a7, a8⟩ | ⟨_, a8⟩
        · rw [a8]; exact hx3 a7
        · omega
    refine ⟨NL', nc', fun x => if x = k then mr_fl T (3 * t + 2) else nm x, hs' _ nmk (fun _ => if_pos rfl), hnd', rfl, rfl, hsk', ?_, ?_, rfl, ?_, ?_, ?_⟩
    · intro x hx
      dsimp only
      by_cases e : x = k
      · subst e
        rw [if_pos rfl]
        refine hN2 ?_
        rcases hnc with ⟨z, _⟩ | ⟨_, z⟩
        · exact z
        · omega
      · have hxk : x < k := by rcases hnc with ⟨_, z⟩ | ⟨_, z⟩ <;> omega
        rw [if_neg e, hN1 x hxk]
        exact hnm x hxk
    · rcases hnc with ⟨_, z⟩ | ⟨_, z⟩ <;> omega
    · intro c hc
      rw [e3t] at hc
      by_cases x2 : c = 3 * t + 2
      · rw [x2, pk_us]
      · by_cases x1 : c = 3 * t + 1
        · rw [x1, pk_un (by omega), pk_us]
        · by_cases x0 : c = 3 * t
          · rw [x0, pk_un (by omega), pk_un (by omega), pk_us]
          · rw [pk_un x2, pk_un x1, pk_un x0]
            exact hvN c (by omega)
    · have okg : w = 0 ∨ w = 4 ∨ w = 6 → ∀ y, y = mr_fl T (3 * t + 2) → xg_ok m (mr_fl T) (3 * (t + 1)) (gl g) (nm g) y := by
        intro z y hy
        rw [q1 z, eg]
        exact Or.inr ⟨3 * t + 2, by omega, rfl, hy.symm, by rw [mq_2]⟩
      have okt : w = 0 ∨ w = 5 ∨ w = 6 → ∀ x, x = mr_fl T (3 * t + 2) → xg_ok m (mr_fl T) (3 * (t + 1)) (gl top) x (nm a) := by
        intro z x hx
        rw [q2 z, ea]
        exact Or.inr ⟨3 * t + 1, by omega, rfl, rfl, by rw [mq_1]; exact hx.symm⟩
      have lg := t4 g (by simp)
      have la := t4 a (by simp)
      refine xg_step hst0 hnd.2.1 hlt hGL ?_ ?_ ?_ ?_ ?_
      · intro z z' hz hz' n1 n2 hz2
        dsimp only
        rw [nmk z hz, nmk z' hz', gfr z hz n1 n2]
        exact xg_ok_mono hz2 (by omega)
      · intro hw
        dsimp only
        have tk : top = k := by
          obtain ⟨_, _, _, _, _, a6⟩ := hq (Or.inl hw)
          omega
        rw [if_pos rfl, nmk a la, nmk g lg]
        refine ⟨?_, okg (Or.inl hw) _ rfl⟩
        have := okt (Or.inl hw) _ rfl
        rwa [tk] at this
      · intro hw
        dsimp only
        rw [nmk far (t4 far (by simp [hfar (by omega)])), nmk g lg]
        exact okg (Or.inr (Or.inl hw)) _ (ef (by omega))
      · intro hw
        dsimp only
        have tk : top = far := by
          obtain ⟨_, _, _, _, _, a6⟩ := hq (Or.inr (Or.inl hw))
          omega
        rw [nmk far (t4 far (by simp [hfar (by omega)])), nmk a la]
        have := okt (Or.inr (Or.inl hw)) _ (ef (by omega))
        rwa [tk] at this
      · intro hw
        dsimp only
        have tk : top = k := by
          obtain ⟨_, _, _, _, _, a6⟩ := hq (Or.inr (Or.inr hw))
          omega
        rw [if_pos rfl, nmk far (t4 far (by simp [hfar (by omega)])), nmk a la, nmk g lg, ef (by omega)]
        refine ⟨?_, okg (Or.inr (Or.inr hw)) _ rfl, fun z _ _ hz => hz⟩
        have := okt (Or.inr (Or.inr hw)) _ rfl
        rwa [tk] at this
    · intro c hc
      rw [e3t] at hc
      have glc : w = 0 ∨ w = 4 ∨ w = 6 → g ∈ NL'.flatten := by
        intro hz
        rcases xg_keep hst0 (x := g) (by simp) with z | ⟨z, z'⟩ | ⟨z, _⟩ | ⟨z, _⟩
        · exact z
        · rw [z'] at t1; simp at t1
        · omega
        · omega
      by_cases x2 : c = 3 * t + 2
      · subst x2
        by_cases hz : w = 5 ∨ w = 7
        · exact Or.inl (c2 hz).1
        · have hz' : w = 0 ∨ w = 4 ∨ w = 6 := by rcases hlet with z | z | z | z | z <;> omega
          exact Or.inr ⟨g, glc hz', q1 hz'⟩
      · by_cases x1 : c = 3 * t + 1
        · subst x1
          by_cases hz : w = 4 ∨ w = 7
          · exact Or.inl (c1 hz).1
          · have hz' : w = 0 ∨ w = 5 ∨ w = 6 := by rcases hlet with z | z | z | z | z <;> omega
            obtain ⟨_, _, _, _, a5, _⟩ := hq hz'
            exact Or.inr ⟨top, a5, q2 hz'⟩
        · by_cases x0 : c = 3 * t
          · subst x0
            exact Or.inl c0
          · rcases hvO c (by omega) with hco | ⟨x, hx1, hx2⟩
            · exact Or.inl (xr_le_cor l1 hco)
            · by_cases xg : x = g
              · subst xg
                exact Or.inl (g0 c (by omega) hx2)
              · by_cases xa : x = a ∧ (w = 4 ∨ w = 7)
                · obtain ⟨rfl, hz⟩ := xa
                  exact Or.inl ((c1 hz).2 c (by omega) hx2)
                · by_cases xf : x = far ∧ (w = 5 ∨ w = 7)
                  · obtain ⟨rfl, hz⟩ := xf
                    exact Or.inl ((c2 hz).2 c (by omega) hx2)
                  · refine Or.inr ⟨x, ?_, ?_⟩
                    · rcases xg_keep hst0 hx1 with z | ⟨z, z'⟩ | ⟨z, z'⟩ | ⟨z, z'⟩
                      · exact z
                      · exact absurd ⟨z', Or.inl z⟩ xa
                      · exact absurd z' xg
                      · rcases z' with z' | z' | z'
                        · exact absurd z' xg
                        · exact absurd ⟨z', Or.inr z⟩ xa
                        · exact absurd ⟨z', Or.inr z⟩ xf
                    · rw [gfr x (hlt x hx1) xg (fun z z' => xf ⟨z', Or.inl z⟩)]
                      exact hx2
  unfold wpX_layTriangle
  dsimp only
  refine xw_pop (dp := rest.length) rfl (by omega) ?_
  rw [hg0]
  dsimp only
  rw [nI_clamp (by omega), hl]
  refine ⟨vp_in_nI (by omega) (by decide), nm_e ?_⟩
  refine xr_far hst0 hnd hk64 (by omega) hl ho' (fun hw => ?_) (fun hw hf => ?_)
  · obtain ⟨b1, b2⟩ := hvv.2.1 hw
    refine br_f ar_ng ?_
    unfold wX_layTriangle_39
    refine br_f ar_ng (nm_r (e' := nI v') (by rw [b1]; exact nI_1 v) ?_)
    rw [← b2]
    exact fin _ (fun z => absurd hw z)
  · have b1 := hvv.2.2 hw
    rw [nI_clamp (by omega), hnm far hf, ef hw]
    refine br_t (nI_pos' (by omega)) ⟨vp_in_nI (by omega) (by decide), ?_⟩
    unfold wX_layTriangle_39
    refine br_t (nI_pos' (by omega)) ?_
    rw [← b1]
    exact fin _ (fun _ => rfl)
end
end
section
/-! rebuild -/
theorem xg_ring {G : Nat → Nat → Prop} {m : Nat} (hm : 1 ≤ m) (h : ∀ j, j < m → G j (xn_af m j)) : xg_lp G (List.range m) := by
  have key : ∀ k s, s + 1 + k = m → xg_ch G s (List.range' (s + 1) k ++ [0]) := by
    intro k
    induction k with
    | zero =>
      intro s hs
      have := h s (by omega)
      rw [show xn_af m s = 0 from if_neg (by omega)] at this
      exact ⟨this, trivial⟩
    | succ k ih =>
      intro s hs
      have := h s (by omega)
      rw [show xn_af m s = s + 1 from if_pos (by omega)] at this
      rw [List.range'_succ]
      exact ⟨this, ih (s + 1) (by omega)⟩
  obtain ⟨k, rfl⟩ : ∃ k, m = k + 1 := ⟨m - 1, by omega⟩
  rw [List.range_eq_range', List.range'_succ]
  exact key k 0 (by omega)
theorem xn_af_mod {m j : Nat} (h : j < m) : xn_af m j = (j + 1) % m := by
  unfold xn_af
  split
  · rw [Nat.mod_eq_of_lt (by assumption)]
  · rw [show j + 1 = m by omega, Nat.mod_self]
theorem xr_dropT {T : List (Nat × Nat × Nat)} {t : Nat} (h : t < T.length) : T.drop t = (mr_fl T (3 * t), mr_fl T (3 * t + 1), mr_fl T (3 * t + 2)) :: T.drop (t + 1) := by
  rw [List.drop_eq_getElem_cons h, mr_fl_at h]
section
variable {f_letterC f_letterR f_letterL f_letterS f_letterE f_triangleLimit f_vertexLimit f_slotCount f_draftCount f_bench f_bitsUsed f_nodeCount f_loopDepth f_boundaryCount f_numbered f_taken f_nextNumber f_viewCount : Int32} {a_draftName a_sideTable a_letterCount a_nodeName a_nodeNext a_nodePrev a_nodeGlue a_loopStack a_boundaryNext a_letters a_offsets a_lengths a_viewName a_viewOpposite : Nat → Int32} {a_packed : Nat → Int64}
theorem xr_reb_loop {post : SX → Prop} {T : List (Nat × Nat × Nat)} {ws : List Nat} {m e : Nat} (hT : T.length ≤ 32) (he : e ≤ 32) (hw : ws.length = T.length) (hl : ∀ j, j < ws.length → a_letters j = nI (ws.getD j 0)) (ho : ∀ j, j < ws.length → ws.getD j 0 = 6 → a_offsets j = nI ((mr_lens (ws.drop (j + 1))).headD 0))
    (h : ∀ (nc ld nn : Int32) (nN nx pv gl st vN vO : Nat → Int32), (∀ c, c < 3 * T.length → vN c = nI (mr_fl T c)) → (∀ c, c < 3 * T.length → xg_Cor m (mr_fl T) (3 * T.length) c (vO c)) →
      post (f_letterC, f_letterR, f_letterL, f_letterS, f_letterE, f_triangleLimit, f_vertexLimit, f_slotCount, f_draftCount, f_bench, f_bitsUsed, nc, ld, f_boundaryCount, f_numbered, f_taken, nn, nI T.length, a_draftName, a_sideTable, a_packed, a_letterCount, nN, nx, pv, gl, st, a_boundaryNext, a_letters, a_offsets, a_lengths, vN, vO)) :
    ∀ (n t : Nat), T.length - t < n → t ≤ T.length → ∀ (s : List (List Nat)) (v : Nat), mr_nr (T.drop t) (ws.drop t) s v [] e → mr_iv (· < v) s → ∀ (nc ld nn : Int32) (nN nx pv gl st vN vO : Nat → Int32), xr_R T m t s v nc ld nn nN nx pv gl st vN vO →
      wX_rebuild_35 post (nI T.length) n (nI t) f_letterC f_letterR f_letterL f_letterS f_letterE f_triangleLimit f_vertexLimit f_slotCount f_draftCount f_bench f_bitsUsed nc ld f_boundaryCount f_numbered f_taken nn f_viewCount a_draftName a_sideTable a_packed a_letterCount nN nx pv gl st a_boundaryNext a_letters a_offsets a_lengths vN vO := by
  intro n
  induction n with
  | zero => intro t hn; omega
  | succ n ih =>
    intro t hn ht s v hr hiv nc ld nn nN nx pv gl st vN vO hR
    rw [wX_rebuild_35]
    dsimp only
    refine pk_le T.length t (fun hle => ?_) (fun hlt => ?_)
    · have et : t = T.length := by omega
      subst et
      rw [List.drop_length, List.drop_eq_nil_of_le (by omega)] at hr
      obtain ⟨rfl, rfl⟩ := hr
      obtain ⟨NL, k, nm, e1, hnd, _, _, _, _, _, _, hvN, _, hvO⟩ := hR
      have : NL = [] := by
        cases NL with
        | nil => rfl
        | cons l r => exact nomatch e1
      subst this
      refine h _ _ _ _ _ _ _ _ _ _ hvN (fun c hc => ?_)
      rcases hvO c hc with z | ⟨x, hx, _⟩
      · exact z
      · exact nomatch hx
    · rw [xr_dropT hlt, xl_drop (by omega)] at hr
      obtain ⟨s1, v1, r1, r2, r3⟩ := hr
      have hle := mr_nr_cnt r3
      have hs : s ≠ [] := by
        obtain ⟨tl, rest, rfl, _⟩ := r1
        exact List.cons_ne_nil _ _
      have hv1 : v ≤ v1 := by rcases r2 with ⟨_, _, z⟩ | ⟨_, _, z⟩ <;> omega
      have hld0 : ¬ ld ≤ 0 := by
        obtain ⟨NL, k', nm, rfl, hnd, _, rfl, _, _, hk', _⟩ := hR
        have h3 : ∀ l, l ∈ NL → 3 ≤ l.length := by
          intro l hl
          have := (hiv (l.map nm) (List.mem_map_of_mem hl)).2.1
          rwa [List.length_map] at this
        have a := xn_depth h3
        have b := mb_nodup_lt hnd.2.1 hnd.2.2
        cases NL with
        | nil => exact absurd rfl hs
        | cons l r =>
          rw [List.length_cons] at a ⊢
          exact nI_nle (by omega) (by omega)
      refine br_f hld0 ?_
      refine xr_lay (T := T) (m := m) (v := v) (v' := v1) (s := s) (s' := s1) hT hlt (by omega) hiv r1 r2 (hl t (by omega)) (fun hw6 => ?_) hR (fun nc' ld' nn' nN' nx' pv' gl' st' vN' vO' hR' => ?_)
      · rw [ho t (by omega) hw6, mr_nr_lens r3]
      · dsimp only
        refine nm_r (nI_1 t) ?_
        exact ih (t + 1) (by omega) (by omega) s1 v1 r3 (mr_iv_num r1 r2 hiv) _ _ _ _ _ _ _ _ _ _ hR'
theorem xr_new_loop {post : SX → Prop} {m : Nat} {x2 : Int32} (hm : 1 ≤ m) (hm2 : m ≤ 32)
    (h : ∀ (nN gl nx pv st : Nat → Int32), (∀ j, j < m → nN j = nI j) → (∀ j, j < m → gl j = -1) → xn_nd nx pv m [List.range m] → st 0 = nI 0 →
      ∃ n35, wX_rebuild_35 post x2 n35 0 f_letterC f_letterR f_letterL f_letterS f_letterE f_triangleLimit f_vertexLimit f_slotCount f_draftCount f_bench f_bitsUsed (nI m) (nI 1) f_boundaryCount f_numbered f_taken (nI m) f_viewCount a_draftName a_sideTable a_packed a_letterCount nN nx pv gl st a_boundaryNext a_letters a_offsets a_lengths a_viewName a_viewOpposite) :
    ∀ n i, m - i < n → i ≤ m → ∀ (nN gl : Nat → Int32), (∀ j, j < i → nN j = nI j) → (∀ j, j < i → gl j = -1) → wX_rebuild_7 post (nI m) x2 n (nI i) f_letterC f_letterR f_letterL f_letterS f_letterE f_triangleLimit f_vertexLimit f_slotCount f_draftCount f_bench f_bitsUsed (nI i) f_loopDepth f_boundaryCount f_numbered f_taken f_nextNumber f_viewCount a_draftName a_sideTable a_packed a_letterCount nN a_nodeNext a_nodePrev gl a_loopStack a_boundaryNext a_letters a_offsets a_lengths a_viewName a_viewOpposite := by
  intro n
  induction n with
  | zero => intro i hn; omega
  | succ n ih =>
    intro i hn hi nN gl hN hg
    rw [wX_rebuild_7]
    dsimp only
    refine pk_le m i (fun hle => ?_) (fun hlt => ?_)
    · have e : i = m := by omega
      subst e
      refine xw_close (m := i) hm (by omega) rfl (fun nx pv st hnd hst => ?_)
      exact h nN gl nx pv st hN hg hnd hst
    · refine xw_new rfl (by omega) _ ?_
      dsimp only
      refine nm_r (nI_1 i) (ih (i + 1) (by omega) (by omega) _ _ (fun j hj => ?_) (fun j hj => ?_))
      · by_cases e : j = i
        · rw [e, pk_us]
        · rw [pk_un e]; exact hN j (by omega)
      · by_cases e : j = i
        · rw [e, pk_us]
        · rw [pk_un e]; exact hg j (by omega)
theorem xr_rebuild {post : SX → Prop} {T : List (Nat × Nat × Nat)} {ws : List Nat} {m e : Nat} (hT : T.length ≤ 32) (he : e ≤ 32) (hm : 3 ≤ m) (hm2 : m ≤ 32) (hr : mr_nr T ws [List.range m] m [] e)
    (hl : ∀ j, j < ws.length → a_letters j = nI (ws.getD j 0)) (ho : ∀ j, j < ws.length → ws.getD j 0 = 6 → a_offsets j = nI ((mr_lens (ws.drop (j + 1))).headD 0))
    (h : ∀ (nc ld nn : Int32) (nN nx pv gl st vN vO : Nat → Int32), (∀ c, c < 3 * T.length → vN c = nI (mr_fl T c)) → (∀ c, c < 3 * T.length → xg_Cor m (mr_fl T) (3 * T.length) c (vO c)) →
      post (f_letterC, f_letterR, f_letterL, f_letterS, f_letterE, f_triangleLimit, f_vertexLimit, f_slotCount, f_draftCount, f_bench, f_bitsUsed, nc, ld, f_boundaryCount, f_numbered, f_taken, nn, nI T.length, a_draftName, a_sideTable, a_packed, a_letterCount, nN, nx, pv, gl, st, a_boundaryNext, a_letters, a_offsets, a_lengths, vN, vO)) :
    wpX_rebuild post (f_letterC, f_letterR, f_letterL, f_letterS, f_letterE, f_triangleLimit, f_vertexLimit, f_slotCount, f_draftCount, f_bench, f_bitsUsed, f_nodeCount, f_loopDepth, f_boundaryCount, f_numbered, f_taken, f_nextNumber, f_viewCount, a_draftName, a_sideTable, a_packed, a_letterCount, a_nodeName, a_nodeNext, a_nodePrev, a_nodeGlue, a_loopStack, a_boundaryNext, a_letters, a_offsets, a_lengths, a_viewName, a_viewOpposite) (nI m) (nI T.length) := by
  unfold wpX_rebuild
  dsimp only
  refine ⟨m + 1, xr_new_loop (by omega) hm2 (fun nN gl nx pv st hN hg hnd hst => ⟨T.length + 1, ?_⟩) (m + 1) 0 (by omega) (by omega) _ _ (fun j hj => absurd hj (Nat.not_lt_zero _)) (fun j hj => absurd hj (Nat.not_lt_zero _))⟩
  refine xr_reb_loop (m := m) hT he (mr_nr_len hr).symm hl ho h (T.length + 1) 0 (by omega) (by omega) [List.range m] m hr (mr_iv_range hm) _ _ _ _ _ _ _ _ _ _ ?_
  refine ⟨[List.range m], m, fun x => x, ?_, hnd, rfl, rfl, ⟨?_, trivial⟩, hN, by omega, rfl, fun c hc => by omega, ?_, fun c hc => by omega⟩
  · simp
  · obtain ⟨k, rfl⟩ : ∃ k, m = k + 1 := ⟨m - 1, by omega⟩
    rw [List.range_eq_range', List.range'_succ]
    exact hst
  · intro l hl'
    rw [List.mem_singleton.mp hl']
    refine xg_ring (by omega) (fun j hj => Or.inl ⟨hg j hj, hj, ?_⟩)
    exact xn_af_mod hj
end
end
section
/-! walks of the reference: names, sides, boundary, pushes -/
section
variable {f_triangleLimit f_vertexLimit f_slotCount f_draftCount f_viewLength f_peelLength f_peelVertices f_peelBoundary : Int32} {a_draft a_slotList a_slotLength a_slotVertices a_slotBoundary a_viewList a_peelList a_number a_taken a_loop a_rows a_rowLength : Nat → Int32}
theorem ya_isName {post : Int32 → Prop} {V : Nat} (p0 : Int32) (hV : f_vertexLimit = nI V) (hV2 : V ≤ 32) (h1 : mn_nm V p0 → post 1) (h0 : ¬ mn_nm V p0 → post 0) : wpY_isName post (f_triangleLimit, f_vertexLimit, f_slotCount, f_draftCount, f_viewLength, f_peelLength, f_peelVertices, f_peelBoundary, a_draft, a_slotList, a_slotLength, a_slotVertices, a_slotBoundary, a_viewList, a_peelList, a_number, a_taken, a_loop, a_rows, a_rowLength) p0 := by
  unfold wpY_isName
  dsimp only
  subst hV
  by_cases a : p0 < 0
  · refine br_t a (h0 ?_)
    rintro ⟨x, hx, rfl⟩
    exact nI_pos (by omega) a
  · refine br_f a ?_
    obtain ⟨j, hj, rfl⟩ := nI_of a
    refine pk_le V j (fun h => h0 ?_) (fun h => h1 ⟨j, h, rfl⟩)
    rintro ⟨x, hx, e⟩
    rw [nI_eq hj (by omega)] at e
    omega
theorem ya_isSlot {post : Int32 → Prop} {V : Nat} (p0 : Int32) (hV : f_slotCount = nI V) (hV2 : V ≤ 4) (h1 : mn_nm V p0 → post 1) (h0 : ¬ mn_nm V p0 → post 0) : wpY_isSlot post (f_triangleLimit, f_vertexLimit, f_slotCount, f_draftCount, f_viewLength, f_peelLength, f_peelVertices, f_peelBoundary, a_draft, a_slotList, a_slotLength, a_slotVertices, a_slotBoundary, a_viewList, a_peelList, a_number, a_taken, a_loop, a_rows, a_rowLength) p0 := by
  unfold wpY_isSlot
  dsimp only
  subst hV
  by_cases a : p0 < 0
  · refine br_t a (h0 ?_)
    rintro ⟨x, hx, rfl⟩
    exact nI_pos (by omega) a
  · refine br_f a ?_
    obtain ⟨j, hj, rfl⟩ := nI_of a
    refine pk_le V j (fun h => h0 ?_) (fun h => h1 ⟨j, h, rfl⟩)
    rintro ⟨x, hx, e⟩
    rw [nI_eq hj (by omega)] at e
    omega
theorem ya_owner_loop {post : Int32 → Prop} {n : Nat} {e : Nat → Nat} {p0 p1 : Int32} (hc : f_draftCount = nI n) (hn : n ≤ 32) (ha : ∀ c, c < 96 → a_draft c = nI (e c))
    (h1 : ∀ c, c < 3 * n → p0 = nI (e c) → p1 = nI (e (mq_nx c)) → post (nI (c / 3))) (h0 : (∀ c, c < 3 * n → ¬ (p0 = nI (e c) ∧ p1 = nI (e (mq_nx c)))) → post (-1)) :
    ∀ m i, 3 * n - i < m → i ≤ 3 * n → (∀ c, c < i → ¬ (p0 = nI (e c) ∧ p1 = nI (e (mq_nx c)))) → wY_sideOwner_2 post p0 p1 f_triangleLimit f_vertexLimit f_slotCount f_draftCount f_viewLength f_peelLength f_peelVertices f_peelBoundary a_draft a_slotList a_slotLength a_slotVertices a_slotBoundary a_viewList a_peelList a_number a_taken a_loop a_rows a_rowLength m (nI i) := by
  subst hc
  intro m
  induction m with
  | zero => intro i hm; omega
  | succ m ih =>
    intro i hm hi hno
    rw [wY_sideOwner_2]
    dsimp only
    rw [ar_3]
    refine pk_le (3 * n) i (fun hle => ?_) (fun hlt => ?_)
    · exact h0 (fun c hc => hno c (by omega))
    · have hx : mq_nx i < 96 := mq_lt (n := 32) (by omega)
      have go : ∀ z : Int32, z = nI (mq_nx i) → wY_sideOwner_28 post (wY_sideOwner_2 post p0 p1 f_triangleLimit f_vertexLimit f_slotCount (nI n) f_viewLength f_peelLength f_peelVertices f_peelBoundary a_draft a_slotList a_slotLength a_slotVertices a_slotBoundary a_viewList a_peelList a_number a_taken a_loop a_rows a_rowLength m) p0 p1 (nI i) z f_triangleLimit f_vertexLimit f_slotCount (nI n) f_viewLength f_peelLength f_peelVertices f_peelBoundary a_draft a_slotList a_slotLength a_slotVertices a_slotBoundary a_viewList a_peelList a_number a_taken a_loop a_rows a_rowLength := by
        intro z hz
        subst hz
        unfold wY_sideOwner_28
        rw [nI_clamp (by omega), ha i (by omega), nI_clamp (by omega), ha _ hx, ar_d3 (by omega)]
        have next : ¬ (p0 = nI (e i) ∧ p1 = nI (e (mq_nx i))) → ∀ x : Int32, x = nI i + 1 → wY_sideOwner_2 post p0 p1 f_triangleLimit f_vertexLimit f_slotCount (nI n) f_viewLength f_peelLength f_peelVertices f_peelBoundary a_draft a_slotList a_slotLength a_slotVertices a_slotBoundary a_viewList a_peelList a_number a_taken a_loop a_rows a_rowLength m x := by
          intro hne
          refine nm_r (nI_1 i) (ih (i + 1) (by omega) (by omega) (fun c hc => ?_))
          by_cases ec : c = i
          · rw [ec]; exact hne
          · exact hno c (by omega)
        refine ⟨vp_in_nI (by omega) (by decide), br_c (fun e1 => ⟨vp_in_nI hx (by decide), br_c (fun e2 => ⟨ar_n3, h1 i hlt e1.symm e2.symm⟩) (fun e2 => next (fun z => e2 z.2.symm))⟩) (fun e1 => next (fun z => e1 z.1.symm))⟩
      rw [ar_r3 (by omega)]
      refine ⟨ar_n3, pk_eq (i % 3) 2 (fun e2 => go _ ?_) (fun e2 => go _ ?_)⟩
      · rw [mq_nx_a e2, ar_s2 (by omega)]
      · rw [mq_nx_b e2, nI_1]
theorem ya_owner {post : Int32 → Prop} {n : Nat} {e : Nat → Nat} (hc : f_draftCount = nI n) (hn : n ≤ 32) (ha : ∀ c, c < 96 → a_draft c = nI (e c)) (p0 p1 : Int32)
    (h1 : ∀ c, c < 3 * n → p0 = nI (e c) → p1 = nI (e (mq_nx c)) → post (nI (c / 3))) (h0 : (∀ c, c < 3 * n → ¬ (p0 = nI (e c) ∧ p1 = nI (e (mq_nx c)))) → post (-1)) : wpY_sideOwner post (f_triangleLimit, f_vertexLimit, f_slotCount, f_draftCount, f_viewLength, f_peelLength, f_peelVertices, f_peelBoundary, a_draft, a_slotList, a_slotLength, a_slotVertices, a_slotBoundary, a_viewList, a_peelList, a_number, a_taken, a_loop, a_rows, a_rowLength) p0 p1 := by
  unfold wpY_sideOwner
  dsimp only
  exact ⟨3 * n + 1, ya_owner_loop hc hn ha h1 h0 (3 * n + 1) 0 (by omega) (by omega) (fun c hc => absurd hc (Nat.not_lt_zero _))⟩
theorem ya_owner_at {post : Int32 → Prop} {n V : Nat} {e : Nat → Nat} (hc : f_draftCount = nI n) (hn : n ≤ 32) (hV : V ≤ 32) (he : md_Ok n V e) (ha : ∀ c, c < 96 → a_draft c = nI (e c)) {p q : Nat} (hp : p < 32) (hq : q < 32)
    (h1 : ∀ c, c < 3 * n → e c = p → e (mq_nx c) = q → post (nI (c / 3))) (h0 : ¬ md_S n e p q → post (-1)) : wpY_sideOwner post (f_triangleLimit, f_vertexLimit, f_slotCount, f_draftCount, f_viewLength, f_peelLength, f_peelVertices, f_peelBoundary, a_draft, a_slotList, a_slotLength, a_slotVertices, a_slotBoundary, a_viewList, a_peelList, a_number, a_taken, a_loop, a_rows, a_rowLength) (nI p) (nI q) := by
  refine ya_owner hc hn ha _ _ (fun c hc' e1 e2 => ?_) (fun h => ?_)
  · have a := he.1 c hc'
    have b := he.1 _ (mq_lt hc')
    exact h1 c hc' (mn_inj (by omega) hp e1.symm) (mn_inj (by omega) hq e2.symm)
  · refine h0 ?_
    rintro ⟨c, hc', rfl, rfl⟩
    exact h c hc' ⟨rfl, rfl⟩
theorem ya_bd {post : Int32 → Prop} {n V : Nat} {e : Nat → Nat} (hc : f_draftCount = nI n) (hn : n ≤ 32) (hV : V ≤ 32) (he : md_Ok n V e) (ha : ∀ c, c < 96 → a_draft c = nI (e c)) (p0 p1 : Int32)
    (h1 : ∀ p q, p0 = nI p → p1 = nI q → md_B n e p q → post 1) (h0 : (¬ ∃ p q, p0 = nI p ∧ p1 = nI q ∧ md_B n e p q) → post 0) : wpY_isBoundary post (f_triangleLimit, f_vertexLimit, f_slotCount, f_draftCount, f_viewLength, f_peelLength, f_peelVertices, f_peelBoundary, a_draft, a_slotList, a_slotLength, a_slotVertices, a_slotBoundary, a_viewList, a_peelList, a_number, a_taken, a_loop, a_rows, a_rowLength) p0 p1 := by
  unfold wpY_isBoundary
  dsimp only
  refine ya_owner hc hn ha _ _ (fun c hc' e1 e2 => ?_) (fun h => ?_)
  · have l1 := he.1 c hc'
    have l2 := he.1 _ (mq_lt hc')
    refine br_f (nI_pos (by omega)) ?_
    refine ya_owner hc hn ha _ _ (fun c' hc'' e1' e2' => ?_) (fun h => ?_)
    · have l1' := he.1 c' hc''
      have l2' := he.1 _ (mq_lt hc'')
      refine br_t (nI_pos' (by omega)) (h0 ?_)
      rintro ⟨p, q, f1, f2, hb⟩
      have hl := md_S_lt he hb.1
      refine hb.2 ⟨c', hc'', ?_, ?_⟩
      · exact mn_inj (by omega) (by omega) (e1'.symm.trans f2)
      · exact mn_inj (by omega) (by omega) (e2'.symm.trans f1)
    · refine br_f ar_ng (h1 (e c) (e (mq_nx c)) e1 e2 ⟨⟨c, hc', rfl, rfl⟩, ?_⟩)
      rintro ⟨c', hc'', f1, f2⟩
      exact h c' hc'' ⟨e2.trans (by rw [f1]), e1.trans (by rw [f2])⟩
  · refine br_t ar_lg (h0 ?_)
    rintro ⟨p, q, f1, f2, ⟨c, hc', g1, g2⟩, _⟩
    exact h c hc' ⟨f1.trans (by rw [g1]), f2.trans (by rw [g2])⟩
theorem ya_bd_at {post : Int32 → Prop} {n V : Nat} {e : Nat → Nat} (hc : f_draftCount = nI n) (hn : n ≤ 32) (hV : V ≤ 32) (he : md_Ok n V e) (ha : ∀ c, c < 96 → a_draft c = nI (e c)) {p q : Nat} (hp : p < 32) (hq : q < 32)
    (h1 : md_B n e p q → post 1) (h0 : ¬ md_B n e p q → post 0) : wpY_isBoundary post (f_triangleLimit, f_vertexLimit, f_slotCount, f_draftCount, f_viewLength, f_peelLength, f_peelVertices, f_peelBoundary, a_draft, a_slotList, a_slotLength, a_slotVertices, a_slotBoundary, a_viewList, a_peelList, a_number, a_taken, a_loop, a_rows, a_rowLength) (nI p) (nI q) := by
  refine ya_bd hc hn hV he ha _ _ (fun p' q' e1 e2 hb => ?_) (fun h => h0 (fun hb => h ⟨p, q, rfl, rfl, hb⟩))
  have hl := md_S_lt he hb.1
  have x1 := mn_inj hp (by omega) e1
  have x2 := mn_inj hq (by omega) e2
  subst x1
  subst x2
  exact h1 hb
theorem ya_end_loop {post : Int32 → Prop} {n V x y : Nat} {e : Nat → Nat} (hv : f_vertexLimit = nI V) (hc : f_draftCount = nI n) (hn : n ≤ 32) (hV : V ≤ 32) (he : md_Ok n V e) (ha : ∀ c, c < 96 → a_draft c = nI (e c)) (hone : mo_one (md_B n e)) (hb : md_B n e x y) (h : post (nI y)) :
    ∀ m i, y - i < m → i ≤ y → wY_boundaryEnd_2 post (nI x) f_triangleLimit f_vertexLimit f_slotCount f_draftCount f_viewLength f_peelLength f_peelVertices f_peelBoundary a_draft a_slotList a_slotLength a_slotVertices a_slotBoundary a_viewList a_peelList a_number a_taken a_loop a_rows a_rowLength m (nI i) := by
  have hl := md_S_lt he hb.1
  subst hv
  intro m
  induction m with
  | zero => intro i hm; omega
  | succ m ih =>
    intro i hm hi
    rw [wY_boundaryEnd_2]
    dsimp only
    refine br_f (nI_ge (by omega) (by omega)) ?_
    refine ya_bd_at hc hn hV he ha (by omega) (by omega) (fun hb' => ?_) (fun hb' => ?_)
    · refine br_f ar_n1 ?_
      rw [hone _ _ _ hb' hb]
      exact h
    · have ei : i ≠ y := fun z => hb' (by rw [z]; exact hb)
      exact br_t rfl (nm_r (nI_1 i) (ih (i + 1) (by omega) (by omega)))
theorem ya_end {post : Int32 → Prop} {n V x y : Nat} {e : Nat → Nat} (hv : f_vertexLimit = nI V) (hc : f_draftCount = nI n) (hn : n ≤ 32) (hV : V ≤ 32) (he : md_Ok n V e) (ha : ∀ c, c < 96 → a_draft c = nI (e c)) (hone : mo_one (md_B n e)) (hb : md_B n e x y) (h : post (nI y)) : wpY_boundaryEnd post (f_triangleLimit, f_vertexLimit, f_slotCount, f_draftCount, f_viewLength, f_peelLength, f_peelVertices, f_peelBoundary, a_draft, a_slotList, a_slotLength, a_slotVertices, a_slotBoundary, a_viewList, a_peelList, a_number, a_taken, a_loop, a_rows, a_rowLength) (nI x) := by
  unfold wpY_boundaryEnd
  dsimp only
  exact ⟨y + 1, ya_end_loop hv hc hn hV he ha hone hb h (y + 1) 0 (by omega) (by omega)⟩
/-- apex: of a triangle's corners the one that is neither a nor b -/
theorem ya_apex {post : Int32 → Prop} {n V : Nat} {e : Nat → Nat} (hc : f_draftCount = nI n) (hn : n ≤ 32) (hV : V ≤ 32) (he : md_Ok n V e) (ha : ∀ c, c < 96 → a_draft c = nI (e c)) (p0 p1 : Int32)
    (h1 : ∀ c, c < 3 * n → p0 = nI (e c) → p1 = nI (e (mq_nx c)) → post (nI (e (mq_nx (mq_nx c))))) (h0 : (∀ c, c < 3 * n → ¬ (p0 = nI (e c) ∧ p1 = nI (e (mq_nx c)))) → post (-10)) : wpY_apex post (f_triangleLimit, f_vertexLimit, f_slotCount, f_draftCount, f_viewLength, f_peelLength, f_peelVertices, f_peelBoundary, a_draft, a_slotList, a_slotLength, a_slotVertices, a_slotBoundary, a_viewList, a_peelList, a_number, a_taken, a_loop, a_rows, a_rowLength) p0 p1 := by
  unfold wpY_apex
  dsimp only
  refine ya_owner hc hn ha _ _ (fun c hc' e1 e2 => ?_) (fun h => br_f ar_ng (h0 h))
  have hT : md_T n e (e c) (e (mq_nx c)) (e (mq_nx (mq_nx c))) := ⟨c, hc', rfl, rfl, rfl⟩
  have hlt := md_T_lt he hT
  have hne := md_T_ne he hT
  refine br_t (nI_pos' (by omega)) ?_
  rw [ar_3]
  refine nm_e ⟨4, ?_⟩
  subst e1
  subst e2
  have step : ∀ m i, i / 3 = c / 3 → (nI (e i) = nI (e c) ∨ nI (e i) = nI (e (mq_nx c)) → wY_apex_19 post (nI (e c)) (nI (e (mq_nx c))) (nI (c / 3)) f_triangleLimit f_vertexLimit f_slotCount f_draftCount f_viewLength f_peelLength f_peelVertices f_peelBoundary a_draft a_slotList a_slotLength a_slotVertices a_slotBoundary a_viewList a_peelList a_number a_taken a_loop a_rows a_rowLength m (nI (i + 1))) →
      (¬ nI (e i) = nI (e c) → ¬ nI (e i) = nI (e (mq_nx c)) → post (nI (e i))) → wY_apex_19 post (nI (e c)) (nI (e (mq_nx c))) (nI (c / 3)) f_triangleLimit f_vertexLimit f_slotCount f_draftCount f_viewLength f_peelLength f_peelVertices f_peelBoundary a_draft a_slotList a_slotLength a_slotVertices a_slotBoundary a_viewList a_peelList a_number a_taken a_loop a_rows a_rowLength (m + 1) (nI i) := by
    intro m i hi hgo hp
    rw [wY_apex_19]
    dsimp only
    rw [ar_3, ar_a3, nI_clamp (by omega), ha i (by omega)]
    refine br_f (nI_ge (by omega) (by omega)) ⟨vp_in_nI (by omega) (by decide), br_c (fun z => nm_r (nI_1 i) (hgo (Or.inl z))) (fun z => ⟨vp_in_nI (by omega) (by decide), br_c (fun z' => nm_r (nI_1 i) (hgo (Or.inr z'))) (fun z' => ⟨vp_in_nI (by omega) (by decide), hp z z'⟩)⟩)⟩
  have tipv : ∀ i, i / 3 = c / 3 → ¬ nI (e i) = nI (e c) → ¬ nI (e i) = nI (e (mq_nx c)) → e i = e (mq_nx (mq_nx c)) := by
    intro i hi z1 z2
    have hc3 : i = c ∨ i = mq_nx c ∨ i = mq_nx (mq_nx c) := by
      rcases mq_or c with ⟨a, b⟩ | ⟨a, b⟩ <;> rcases mq_or (mq_nx c) with ⟨a', b'⟩ | ⟨a', b'⟩ <;> omega
    rcases hc3 with rfl | rfl | rfl
    · exact absurd rfl z1
    · exact absurd rfl z2
    · rfl
  have hn1 : ¬ nI (e (mq_nx (mq_nx c))) = nI (e c) := by rw [nI_eq (by omega) (by omega)]; exact hne.2.2
  have hn2 : ¬ nI (e (mq_nx (mq_nx c))) = nI (e (mq_nx c)) := by rw [nI_eq (by omega) (by omega)]; exact fun z => hne.2.1 z.symm
  have hP : ∀ i, i / 3 = c / 3 → ¬ nI (e i) = nI (e c) → ¬ nI (e i) = nI (e (mq_nx c)) → post (nI (e i)) := by
    intro i hi z1 z2
    rw [tipv i hi z1 z2]
    exact h1 c hc' rfl rfl
  refine step 3 (3 * (c / 3)) (by omega) (fun z0 => ?_) (hP _ (by omega))
  refine step 2 (3 * (c / 3) + 1) (by omega) (fun z1 => ?_) (hP _ (by omega))
  refine step 1 (3 * (c / 3) + 2) (by omega) (fun z2 => ?_) (hP _ (by omega))
  exfalso
  have hc3 : mq_nx (mq_nx c) = 3 * (c / 3) ∨ mq_nx (mq_nx c) = 3 * (c / 3) + 1 ∨ mq_nx (mq_nx c) = 3 * (c / 3) + 2 := by
    have := mq_div (mq_nx c)
    have := mq_div c
    omega
  rcases hc3 with z | z | z
  · rw [← z] at z0
    rcases z0 with z0 | z0
    · exact hn1 z0
    · exact hn2 z0
  · rw [← z] at z1
    rcases z1 with z1 | z1
    · exact hn1 z1
    · exact hn2 z1
  · rw [← z] at z2
    rcases z2 with z2 | z2
    · exact hn1 z2
    · exact hn2 z2
/-- push: a loop goes on the stack -/
theorem ya_push_loop {post : SY → Prop} {dp fr len : Nat} (hd : dp < 40) (hl1 : 1 ≤ len) (hfr : fr + len ≤ 40) (h40 : len < 40)
    (h : ∀ (rows rl : Nat → Int32), (∀ j, j < 40 * dp + 1 → rows j = a_rows j) → (∀ j, j < len → rows (40 * dp + 1 + j) = a_loop (fr + j)) → (∀ j, j < 40 → j ≠ dp → rl j = a_rowLength j) → rl dp = nI (len + 1) → post (f_triangleLimit, f_vertexLimit, f_slotCount, f_draftCount, f_viewLength, f_peelLength, f_peelVertices, f_peelBoundary, a_draft, a_slotList, a_slotLength, a_slotVertices, a_slotBoundary, a_viewList, a_peelList, a_number, a_taken, a_loop, rows, rl)) :
    ∀ m i, len - i < m → i ≤ len → ∀ rows : Nat → Int32, (∀ j, j < 40 * dp + 1 → rows j = a_rows j) → (∀ j, j < i → rows (40 * dp + 1 + j) = a_loop (fr + j)) →
      wY_push_13 post (nI dp) (nI fr) (nI (fr + len - 1)) f_triangleLimit f_vertexLimit f_slotCount f_draftCount f_viewLength f_peelLength f_peelVertices f_peelBoundary m (nI (fr + i)) a_draft a_slotList a_slotLength a_slotVertices a_slotBoundary a_viewList a_peelList a_number a_taken a_loop rows a_rowLength := by
  intro m
  induction m with
  | zero => intro i hm; omega
  | succ m ih =>
    intro i hm hi rows h1 h2
    rw [wY_push_13]
    dsimp only
    refine pk_lt (fr + len - 1) (fr + i) (fun hlt => ?_) (fun hle => ?_)
    · rw [pk_sub (by omega), ar_a2, nI_clamp (by omega)]
      refine ⟨vp_in_nI hd (by decide), nm_e ?_⟩
      refine h _ _ h1 (fun j hj => h2 j (by omega)) (fun j _ hj => pk_un hj) ?_
      rw [pk_us]
      exact congrArg nI (by omega)
    · rw [ar_40, nI_1, nI_add, pk_sub (by omega), nI_clamp (by omega), nI_clamp (by omega)]
      refine ⟨vp_in_nI (by omega) (by decide), vp_in_nI (by omega) (by decide), nm_e (nm_r (nI_1 _) ?_)⟩
      rw [show 40 * dp + 1 + (fr + i) - fr = 40 * dp + 1 + i by omega]
      refine ih (i + 1) (by omega) (by omega) _ (fun j hj => ?_) (fun j hj => ?_)
      · rw [pk_un (by omega)]; exact h1 j hj
      · by_cases e : j = i
        · rw [e, pk_us]
        · rw [pk_un (by omega)]; exact h2 j (by omega)
theorem ya_push {post : SY → Prop} {dp fr len : Nat} {p1 p3 : Int32} (hd : dp < 40) (hl1 : 1 ≤ len) (hfr : fr + len ≤ 40) (h40 : len < 40) (hp3 : p3 = nI (fr + len - 1))
    (h : ∀ (rows rl : Nat → Int32), (∀ j, j < 40 * dp → rows j = a_rows j) → rows (40 * dp) = p1 → (∀ j, j < len → rows (40 * dp + 1 + j) = a_loop (fr + j)) → (∀ j, j < 40 → j ≠ dp → rl j = a_rowLength j) → rl dp = nI (len + 1) → post (f_triangleLimit, f_vertexLimit, f_slotCount, f_draftCount, f_viewLength, f_peelLength, f_peelVertices, f_peelBoundary, a_draft, a_slotList, a_slotLength, a_slotVertices, a_slotBoundary, a_viewList, a_peelList, a_number, a_taken, a_loop, rows, rl)) :
    wpY_push post (f_triangleLimit, f_vertexLimit, f_slotCount, f_draftCount, f_viewLength, f_peelLength, f_peelVertices, f_peelBoundary, a_draft, a_slotList, a_slotLength, a_slotVertices, a_slotBoundary, a_viewList, a_peelList, a_number, a_taken, a_loop, a_rows, a_rowLength) (nI dp) p1 (nI fr) p3 := by
  subst hp3
  unfold wpY_push
  dsimp only
  rw [ar_40, nI_clamp (by omega)]
  refine ⟨vp_in_nI (by omega) (by decide), nm_e ⟨len + 1, ?_⟩⟩
  refine ya_push_loop hd hl1 hfr h40 (fun rows rl h1 h2 h3 h4 => ?_) (len + 1) 0 (by omega) (by omega) _ (fun j hj => rfl) (fun j hj => absurd hj (Nat.not_lt_zero _))
  refine h rows rl (fun j hj => ?_) ?_ h2 h3 h4
  · rw [h1 j (by omega), pk_un (by omega)]
  · rw [h1 _ (by omega), pk_us]
end
end
section
/-! the reference's peel: counting the boundary, the first loop -/
def yw_sk (rows rl : Nat → Int32) : List (List Nat) → Prop
  | [] => True
  | l :: r => rl r.length = nI l.length ∧ (∀ j, j < l.length → rows (40 * r.length + j) = nI (l.getD j 0)) ∧ yw_sk rows rl r
theorem yw_sk_fr {rows rl rows' rl' : Nat → Int32} {r : List (List Nat)} (h : yw_sk rows rl r) (hl : ∀ l, l ∈ r → l.length ≤ 40) (h1 : ∀ j, j < 40 * r.length → rows' j = rows j) (h2 : ∀ j, j < r.length → rl' j = rl j) : yw_sk rows' rl' r := by
  induction r with
  | nil => trivial
  | cons l r ih =>
    rw [List.length_cons] at h1 h2
    have hll := hl l (List.mem_cons_self)
    refine ⟨(h2 _ (by omega)).trans h.1, fun j hj => (h1 _ (by omega)).trans (h.2.1 j hj), ih h.2.2 (fun l' hl' => hl l' (List.mem_cons_of_mem _ hl')) (fun j hj => h1 j (by omega)) (fun j hj => h2 j (by omega))⟩
def yp_R (n V : Nat) (e : Nat → Nat) (s : List (List Nat)) (vs : List Nat) (P : List (Nat × Nat × Nat)) (pl pv : Int32) (pL num tk rows rl : Nat → Int32) : Prop :=
  yw_sk rows rl s ∧ s.length ≤ P.length + 1 ∧ pl = nI P.length ∧ pv = nI vs.length ∧ (∀ x, x < V → ((x ∈ vs ∧ num x = nI (vs.idxOf x)) ∨ (x ∉ vs ∧ num x = -1))) ∧ (∀ f, f < n → (tk f = 0 ↔ ¬ mr_tri e f P)) ∧
  (∀ c, c < 3 * P.length → pL c = nI (vs.idxOf (mr_fl P c)))
theorem yc_idx {L : Nat} {y : Nat → Nat} (hi : ∀ i j, i < L → j < L → y i = y j → i = j) {j : Nat} (hj : j < L) : ((List.range L).map y).idxOf (y j) = j := by
  have nd : ((List.range L).map y).Nodup := mb_nodup_map List.nodup_range (fun i j a b => hi i j (List.mem_range.mp a) (List.mem_range.mp b))
  have hl : j < ((List.range L).map y).length := by rw [List.length_map, List.length_range]; exact hj
  have := List.Nodup.idxOf_getElem nd j hl
  rwa [List.getElem_map, List.getElem_range] at this
theorem yc_get {L : Nat} {y : Nat → Nat} {j : Nat} (hj : j < L) : ((List.range L).map y).getD j 0 = y j := by
  rw [List.getD_eq_getElem?_getD, List.getElem?_eq_getElem (by rw [List.length_map, List.length_range]; exact hj), List.getElem_map, List.getElem_range]; rfl
section
variable {f_triangleLimit f_vertexLimit f_slotCount f_draftCount f_viewLength f_peelLength f_peelVertices f_peelBoundary : Int32} {a_draft a_slotList a_slotLength a_slotVertices a_slotBoundary a_viewList a_peelList a_number a_taken a_loop a_rows a_rowLength : Nat → Int32}
theorem yc_32 {post : Int32 → SY → Prop} {J : Int32 → Int32 → (Nat → Int32) → (Nat → Int32) → (Nat → Int32) → (Nat → Int32) → (Nat → Int32) → (Nat → Int32) → (Nat → Int32) → (Nat → Int32) → (Nat → Int32) → (Nat → Int32) → (Nat → Int32) → (Nat → Int32) → Prop}
    {n V x : Nat} {e : Nat → Nat} {p0 x3 : Int32} (hv : f_vertexLimit = nI V) (hc : f_draftCount = nI n) (hn : n ≤ 32) (hV : V ≤ 32) (he : md_Ok n V e) (ha : ∀ c, c < 96 → a_draft c = nI (e c)) (hx : x < V)
    (h2 : 2 ≤ mb_cn (fun z => md_B n e x z) V → post (-8) (f_triangleLimit, f_vertexLimit, f_slotCount, f_draftCount, f_viewLength, f_peelLength, f_peelVertices, f_peelBoundary, a_draft, a_slotList, a_slotLength, a_slotVertices, a_slotBoundary, a_viewList, a_peelList, a_number, a_taken, a_loop, a_rows, a_rowLength)) (h1 : mb_cn (fun z => md_B n e x z) V < 2 → J (x3 + nI (mb_cn (fun z => md_B n e x z) V)) (nI (x + 1)) a_draft a_slotList a_slotLength a_slotVertices a_slotBoundary a_viewList a_peelList (upd a_number x (-1)) a_taken a_loop a_rows a_rowLength) :
    ∀ m z, V - z < m → z ≤ V → wY_peel_32 post J p0 x3 (nI x) f_triangleLimit f_vertexLimit f_slotCount f_draftCount f_viewLength f_peelLength f_peelVertices f_peelBoundary a_draft a_slotList a_slotLength a_slotVertices a_slotBoundary a_viewList a_peelList a_number a_taken a_loop a_rows a_rowLength m (nI (mb_cn (fun z => md_B n e x z) z)) (nI z) := by
  subst hv
  intro m
  induction m with
  | zero => intro z hm; omega
  | succ m ih =>
    intro z hm hz
    have hle := mb_cn_le (fun z => md_B n e x z) z
    rw [wY_peel_32]
    dsimp only
    refine pk_le V z (fun hle' => ?_) (fun hlt => ?_)
    · have ez : z = V := by omega
      subst ez
      refine pk_lt (mb_cn (fun z => md_B n e x z) z) 2 (fun hlt => ?_) (fun hge => h2 hge)
      refine nm_e ⟨vp_in_nI (by omega) (by decide), ?_⟩
      rw [nI_clamp (by omega)]
      exact nm_e (nm_r (nI_1 x) (h1 hlt))
    · refine ya_bd_at hc hn hV he ha (by omega) (by omega) (fun hb => ?_) (fun hb => ?_)
      · refine br_f ar_n1 (nm_r (e' := nI (mb_cn (fun z => md_B n e x z) (z + 1))) ?_ (nm_r (nI_1 z) (ih (z + 1) (by omega) (by omega))))
        rw [mb_cn_s, mb_t hb, nI_1]
      · refine br_t rfl (nm_r (nI_1 z) ?_)
        have := ih (z + 1) (by omega) (by omega)
        rw [mb_cn_s, mb_f hb, Nat.add_zero] at this
        exact this
theorem yc_17 {post : Int32 → SY → Prop} {n V : Nat} {e : Nat → Nat} {p0 : Int32} (hv : f_vertexLimit = nI V) (hc : f_draftCount = nI n) (hn : n ≤ 32) (hV : V ≤ 32) (he : md_Ok n V e) (ha : ∀ c, c < 96 → a_draft c = nI (e c))
    (h0 : ¬ mo_one (md_B n e) → ∀ num : Nat → Int32, post (-8) (f_triangleLimit, f_vertexLimit, f_slotCount, f_draftCount, f_viewLength, f_peelLength, f_peelVertices, f_peelBoundary, a_draft, a_slotList, a_slotLength, a_slotVertices, a_slotBoundary, a_viewList, a_peelList, num, a_taken, a_loop, a_rows, a_rowLength))
    (h1 : mo_one (md_B n e) → ∀ num : Nat → Int32, (∀ x, x < V → num x = -1) → ∃ n98, wY_peel_98 post p0 (nI (mb_cn (fun x => ∃ z, md_B n e x z) V)) f_triangleLimit f_vertexLimit f_slotCount f_draftCount f_viewLength f_peelLength f_peelVertices f_peelBoundary n98 0 p0 a_draft a_slotList a_slotLength a_slotVertices a_slotBoundary a_viewList a_peelList num a_taken a_loop a_rows a_rowLength) :
    ∀ m x, V - x < m → x ≤ V → (∀ x', x' < x → ∀ y y', md_B n e x' y → md_B n e x' y' → y = y') → ∀ num : Nat → Int32, (∀ x', x' < x → num x' = -1) →
      wY_peel_17 post p0 f_triangleLimit f_vertexLimit f_slotCount f_draftCount f_viewLength f_peelLength f_peelVertices f_peelBoundary m (nI (mb_cn (fun x => ∃ z, md_B n e x z) x)) (nI x) a_draft a_slotList a_slotLength a_slotVertices a_slotBoundary a_viewList a_peelList num a_taken a_loop a_rows a_rowLength := by
  subst hv
  intro m
  induction m with
  | zero => intro x hm; omega
  | succ m ih =>
    intro x hm hx hone num hnum
    rw [wY_peel_17]
    dsimp only
    refine pk_le V x (fun hle => ?_) (fun hlt => ?_)
    · have ex : x = V := by omega
      subst ex
      refine h1 (fun x' y y' hb hb' => hone x' (md_S_lt he hb.1).1 y y' hb hb') num hnum
    · refine ⟨V + 1, ?_⟩
      have start : (0 : Int32) = nI (mb_cn (fun z => md_B n e x z) 0) := rfl
      refine yc_32 (e := e) rfl hc hn hV he ha hlt (fun h2 => ?_) (fun h2 => ?_) (V + 1) 0 (by omega) (by omega)
      · refine h0 (fun ho => ?_) num
        have := mb_cn_one (p := fun z => md_B n e x z) (n := V) (fun i j _ _ a b => ho x i j a b)
        omega
      · rw [nI_add]
        have e1 : mb_cn (fun x => ∃ z, md_B n e x z) x + mb_cn (fun z => md_B n e x z) V = mb_cn (fun x => ∃ z, md_B n e x z) (x + 1) := by
          rw [mb_cn_s]
          by_cases hb : ∃ z, md_B n e x z
          · obtain ⟨z, hz⟩ := hb
            have := mb_cn_ge1 (p := fun z => md_B n e x z) (n := V) (md_S_lt he hz.1).2 hz
            rw [mb_t ⟨z, hz⟩]
            omega
          · have : mb_cn (fun z => md_B n e x z) V = 0 := by
              refine Nat.eq_zero_of_not_pos (fun hp => ?_)
              obtain ⟨z, _, hz⟩ := mb_cn_pos hp
              exact hb ⟨z, hz⟩
            rw [mb_f hb, this]
        rw [e1]
        refine ih (x + 1) (by omega) (by omega) (fun x' hx' y y' hb hb' => ?_) _ (fun x' hx' => ?_)
        · by_cases ex : x' = x
          · subst ex
            refine Classical.byContradiction fun hne => ?_
            have := mb_cn_ge2 (p := fun z => md_B n e x' z) (n := V) hne (md_S_lt he hb.1).2 hb (md_S_lt he hb'.1).2 hb'
            omega
          · exact hone x' (by omega) y y' hb hb'
        · by_cases ex : x' = x
          · rw [ex, pk_us]
          · rw [pk_un ex]; exact hnum x' (by omega)
theorem yc_98 {post : Int32 → SY → Prop} {n V L : Nat} {e y : Nat → Nat} {x3 : Int32} (hv : f_vertexLimit = nI V) (hc : f_draftCount = nI n) (hn : n ≤ 32) (hV : V ≤ 32) (he : md_Ok n V e) (ha : ∀ c, c < 96 → a_draft c = nI (e c)) (hone : mo_one (md_B n e))
    (hL : 3 ≤ L) (hLV : L ≤ V) (hyl : ∀ i, y i < V) (hyL : y L = y 0) (hyB : ∀ i, md_B n e (y i) (y (i + 1))) (hi : ∀ i j, i < L → j < L → y i = y j → i = j)
    (K : ∀ loop num : Nat → Int32, (∀ j, j < L → loop j = nI (y j)) → (∀ x, x < V → ((∃ j, j < L ∧ y j = x ∧ num x = nI j) ∨ ((∀ j, j < L → y j ≠ x) ∧ num x = -1))) → wY_peel_155 post (nI (y 0)) x3 (nI L) f_triangleLimit f_vertexLimit f_slotCount f_draftCount f_viewLength f_peelLength f_peelVertices f_peelBoundary a_draft a_slotList a_slotLength a_slotVertices a_slotBoundary a_viewList a_peelList num a_taken loop a_rows a_rowLength) :
    ∀ m i, L - i < m → i ≤ L → ∀ loop num : Nat → Int32, (∀ j, j < i → loop j = nI (y j)) → (∀ x, x < V → ((∃ j, j < i ∧ y j = x ∧ num x = nI j) ∨ ((∀ j, j < i → y j ≠ x) ∧ num x = -1))) →
      wY_peel_98 post (nI (y 0)) x3 f_triangleLimit f_vertexLimit f_slotCount f_draftCount f_viewLength f_peelLength f_peelVertices f_peelBoundary m (nI i) (nI (y i)) a_draft a_slotList a_slotLength a_slotVertices a_slotBoundary a_viewList a_peelList num a_taken loop a_rows a_rowLength := by
  subst hv
  intro m
  induction m with
  | zero => intro i hm; omega
  | succ m ih =>
    intro i hm hi' loop num h1 h2
    have hyi := hyl i
    have hy0 := hyl 0
    rw [wY_peel_98]
    dsimp only
    by_cases hlt : i < L
    · have go : wY_peel_123 post (wY_peel_98 post (nI (y 0)) x3 f_triangleLimit (nI V) f_slotCount f_draftCount f_viewLength f_peelLength f_peelVertices f_peelBoundary m) (nI (y 0)) x3 (nI i) (nI (y i)) f_triangleLimit (nI V) f_slotCount f_draftCount f_viewLength f_peelLength f_peelVertices f_peelBoundary a_draft a_slotList a_slotLength a_slotVertices a_slotBoundary a_viewList a_peelList num a_taken loop a_rows a_rowLength := by
        unfold wY_peel_123
        rw [nI_clamp (by omega), nI_clamp (by omega)]
        refine ⟨vp_in_nI (by omega) (by decide), nm_e ⟨vp_in_nI (by omega) (by decide), nm_e ?_⟩⟩
        refine ya_end rfl hc hn hV he ha hone (hyB i) ?_
        refine nm_r (nI_1 i) (ih (i + 1) (by omega) (by omega) _ _ (fun j hj => ?_) (fun x hx => ?_))
        · by_cases ej : j = i
          · rw [ej, pk_us]
          · rw [pk_un ej]; exact h1 j (by omega)
        · by_cases ex : x = y i
          · subst ex
            exact Or.inl ⟨i, by omega, rfl, pk_us⟩
          · rw [pk_un ex]
            rcases h2 x hx with ⟨j, a1, a2, a3⟩ | ⟨a1, a2⟩
            · exact Or.inl ⟨j, by omega, a2, a3⟩
            · refine Or.inr ⟨fun j hj => ?_, a2⟩
              by_cases ej : j = i
              · rw [ej]; exact fun z => ex z.symm
              · exact a1 j (by omega)
      refine br_f (nI_ge (by omega) (by omega)) (br_f (nI_pos (by omega)) ?_)
      by_cases e0 : i = 0
      · subst e0
        exact br_t rfl go
      · refine br_f (nI_ne0 (by omega) (by omega)) (br_f ?_ go)
        rw [nI_eq (by omega) (by omega)]
        intro z
        exact e0 (hi i 0 hlt (by omega) z)
    · have ei : i = L := by omega
      subst ei
      have fin := K loop num h1 h2
      refine br_c (fun _ => fin) (fun _ => br_f (nI_pos (by omega)) (br_f (nI_ne0 (by omega) (by omega)) (br_t ?_ fin)))
      rw [hyL]
theorem yc_184 {post : Int32 → SY → Prop} {p0 x4 : Int32} (h : ∀ tk : Nat → Int32, (∀ f, f < 32 → tk f = 0) → wpY_push (fun u => match u with | (f_triangleLimit', f_vertexLimit', f_slotCount', f_draftCount', f_viewLength', f_peelLength', f_peelVertices', f_peelBoundary', a_draft', a_slotList', a_slotLength', a_slotVertices', a_slotBoundary', a_viewList', a_peelList', a_number', a_taken', a_loop', a_rows', a_rowLength') => (∃ n222 : Nat, wY_peel_222 post n222 1 0 f_triangleLimit' f_vertexLimit' f_slotCount' f_draftCount' f_viewLength' f_peelLength' f_peelVertices' f_peelBoundary' a_draft' a_slotList' a_slotLength' a_slotVertices' a_slotBoundary' a_viewList' a_peelList' a_number' a_taken' a_loop' a_rows' a_rowLength')) (f_triangleLimit, f_vertexLimit, f_slotCount, f_draftCount, f_viewLength, f_peelLength, f_peelVertices, f_peelBoundary, a_draft, a_slotList, a_slotLength, a_slotVertices, a_slotBoundary, a_viewList, a_peelList, a_number, tk, a_loop, a_rows, a_rowLength) 0 p0 1 (x4 - 1)) :
    ∀ m i, 32 - i < m → i ≤ 32 → ∀ tk : Nat → Int32, (∀ f, f < i → tk f = 0) → wY_peel_184 post p0 x4 f_triangleLimit f_vertexLimit f_slotCount f_draftCount f_viewLength f_peelLength f_peelVertices f_peelBoundary m (nI i) a_draft a_slotList a_slotLength a_slotVertices a_slotBoundary a_viewList a_peelList a_number tk a_loop a_rows a_rowLength := by
  intro m
  induction m with
  | zero => intro i hm; omega
  | succ m ih =>
    intro i hm hi tk htk
    rw [wY_peel_184]
    dsimp only
    refine pk_le 32 i (fun hle => ?_) (fun hlt => ?_)
    · exact h tk (fun f hf => htk f (by omega))
    · rw [nI_clamp (by omega)]
      refine ⟨vp_in_nI (by omega) (by decide), nm_e (nm_r (nI_1 i) (ih (i + 1) (by omega) (by omega) _ (fun f hf => ?_)))⟩
      by_cases e : f = i
      · rw [e, pk_us]; rfl
      · rw [pk_un e]; exact htk f (by omega)
end
end
section
/-! the reference's peel: one round -/
theorem mr_fl_old {P : List (Nat × Nat × Nat)} {τ : Nat × Nat × Nat} {c : Nat} (h : c < 3 * P.length) : mr_fl (P ++ [τ]) c = mr_fl P c := by
  have e : (P ++ [τ]).getD (c / 3) (0, 0, 0) = P.getD (c / 3) (0, 0, 0) := by
    rw [List.getD_eq_getElem?_getD, List.getD_eq_getElem?_getD, List.getElem?_append_left (by omega)]
  unfold mr_fl
  rw [e]
theorem mr_fl_new (P : List (Nat × Nat × Nat)) (τ : Nat × Nat × Nat) : (P ++ [τ]).getD P.length (0, 0, 0) = τ := by
  rw [List.getD_eq_getElem?_getD, List.getElem?_append_right (Nat.le_refl _), Nat.sub_self]; rfl
theorem yp_idx {vs : List Nat} {x t : Nat} (h : x ∈ vs) : (vs ++ [t]).idxOf x = vs.idxOf x := by
  rw [List.idxOf_append, if_pos h]
theorem yp_idx_new {vs : List Nat} {t : Nat} (h : t ∉ vs) : (vs ++ [t]).idxOf t = vs.length := by
  rw [List.idxOf_append, if_neg h, List.idxOf_cons_self, Nat.zero_add]
theorem yp_b1 : vp_nar .boolean 1 = 1 := rfl
section
variable {f_triangleLimit f_vertexLimit f_slotCount f_draftCount f_viewLength f_peelLength f_peelVertices f_peelBoundary : Int32} {a_draft a_slotList a_slotLength a_slotVertices a_slotBoundary a_viewList a_peelList a_number a_taken a_loop a_rows a_rowLength : Nat → Int32} {J : Int32 → Int32 → Int32 → Int32 → Int32 → Int32 → Int32 → Int32 → Int32 → Int32 → (Nat → Int32) → (Nat → Int32) → (Nat → Int32) → (Nat → Int32) → (Nat → Int32) → (Nat → Int32) → (Nat → Int32) → (Nat → Int32) → (Nat → Int32) → (Nat → Int32) → (Nat → Int32) → (Nat → Int32) → Prop}
theorem ys_copy {post : Int32 → SY → Prop} {dp : Nat} {x7 : Int32} {l : List Nat} (hd : dp < 40) (hl : l.length < 40) (hr : ∀ j, j < l.length → a_rows (40 * dp + j) = nI (l.getD j 0))
    (K : ∀ loop : Nat → Int32, (∀ j, j < l.length → loop j = nI (l.getD j 0)) → ∀ n, wY_peel_249 post J (nI l.length) (nI dp) x7 f_triangleLimit f_vertexLimit f_slotCount f_draftCount f_viewLength f_peelLength f_peelVertices f_peelBoundary (n + 1) (nI l.length) a_draft a_slotList a_slotLength a_slotVertices a_slotBoundary a_viewList a_peelList a_number a_taken loop a_rows a_rowLength) :
    ∀ m i, l.length - i < m → i ≤ l.length → ∀ loop : Nat → Int32, (∀ j, j < i → loop j = nI (l.getD j 0)) → wY_peel_249 post J (nI l.length) (nI dp) x7 f_triangleLimit f_vertexLimit f_slotCount f_draftCount f_viewLength f_peelLength f_peelVertices f_peelBoundary m (nI i) a_draft a_slotList a_slotLength a_slotVertices a_slotBoundary a_viewList a_peelList a_number a_taken loop a_rows a_rowLength := by
  intro m
  induction m with
  | zero => intro i hm; omega
  | succ m ih =>
    intro i hm hi loop hlo
    by_cases e : i = l.length
    · subst e
      exact K loop hlo m
    · rw [wY_peel_249]
      dsimp only
      rw [ar_40, nI_add, nI_clamp (by omega), nI_clamp (by omega), hr i (by omega)]
      refine br_f (nI_ge (by omega) (by omega)) ⟨vp_in_nI (by omega) (by decide), vp_in_nI (by omega) (by decide), nm_e (nm_r (nI_1 i) (ih (i + 1) (by omega) (by omega) _ (fun j hj => ?_)))⟩
      by_cases ej : j = i
      · rw [ej, pk_us]
      · rw [pk_un ej]; exact hlo j (by omega)
theorem ys_skip {post : Int32 → SY → Prop} {m b : Nat} {x6 x7 x8 x9 x11 x12 : Int32} (hm : m < 40) (hb : b ≤ m) : ∀ (k a : Nat), a + k = b → (∀ i, a ≤ i → i < b → a_loop i ≠ x11) → ∀ n, wY_peel_358 post J (nI m) x6 x7 x8 x9 x11 f_triangleLimit f_vertexLimit f_slotCount f_draftCount f_viewLength f_peelLength f_peelVertices f_peelBoundary a_draft a_slotList a_slotLength a_slotVertices a_slotBoundary a_viewList a_peelList a_number a_taken a_loop a_rows a_rowLength n x12 (nI b) → wY_peel_358 post J (nI m) x6 x7 x8 x9 x11 f_triangleLimit f_vertexLimit f_slotCount f_draftCount f_viewLength f_peelLength f_peelVertices f_peelBoundary a_draft a_slotList a_slotLength a_slotVertices a_slotBoundary a_viewList a_peelList a_number a_taken a_loop a_rows a_rowLength (n + k) x12 (nI a) := by
  intro k
  induction k with
  | zero =>
    intro a ha _ n h
    rw [Nat.add_zero] at ha
    rw [ha]
    exact h
  | succ k ih =>
    intro a ha hne n h
    rw [← Nat.add_assoc, wY_peel_358]
    dsimp only
    rw [nI_clamp (n := a) (by omega)]
    refine br_f (nI_ge (by omega) (by omega)) ⟨vp_in_nI (by omega) (by decide), br_f (hne a (Nat.le_refl _) (by omega)) (nm_r (nI_1 a) ?_)⟩
    exact ih (a + 1) (by omega) (fun i h1 h2 => hne i (by omega) h2) n h
/-- the row of the triangle is written, the round ends -/
theorem ys_555 {post : Int32 → SY → Prop} {V p q t x7 np : Nat} {x6 : Int32} {vs : List Nat} {P : List (Nat × Nat × Nat)} (hV : V ≤ 32) (hp : p < V) (hq : q < V) (ht : t < V) (hnp : np < 32) (hpl : f_peelLength = nI np) (hx7 : x7 < 100)
    (hnum : ∀ x, x < V → ((x ∈ vs ∧ a_number x = nI (vs.idxOf x)) ∨ (x ∉ vs ∧ a_number x = -1))) (mp : p ∈ vs) (mq : q ∈ vs) (mt : t ∈ vs) (hP : P.length = np) (hold : ∀ c, c < 3 * np → a_peelList c = nI (vs.idxOf (mr_fl P c)))
    (h : ∀ pL : Nat → Int32, (∀ c, c < 3 * (P ++ [(p, q, t)]).length → pL c = nI (vs.idxOf (mr_fl (P ++ [(p, q, t)]) c))) → J x6 (nI (x7 + 1)) f_triangleLimit f_vertexLimit f_slotCount f_draftCount f_viewLength (nI (np + 1)) f_peelVertices f_peelBoundary a_draft a_slotList a_slotLength a_slotVertices a_slotBoundary a_viewList pL a_number a_taken a_loop a_rows a_rowLength) :
    wY_peel_555 post J x6 (nI x7) (nI p) (nI q) (nI t) f_triangleLimit f_vertexLimit f_slotCount f_draftCount f_viewLength f_peelLength f_peelVertices f_peelBoundary a_draft a_slotList a_slotLength a_slotVertices a_slotBoundary a_viewList a_peelList a_number a_taken a_loop a_rows a_rowLength := by
  subst hpl
  have e0 : ∀ x, x < V → x ∈ vs → a_number x = nI (vs.idxOf x) := by
    intro x hx hm
    rcases hnum x hx with ⟨_, z⟩ | ⟨z, _⟩
    · exact z
    · exact absurd hm z
  unfold wY_peel_555
  rw [ar_3, nI_1 (3 * np), ar_a2, nI_clamp (by omega), nI_clamp (by omega), nI_clamp (by omega), nI_clamp (by omega), nI_clamp (by omega), nI_clamp (by omega), e0 p hp mp, e0 q hq mq, e0 t ht mt]
  refine ⟨vp_in_nI (by omega) (by decide), vp_in_nI (by omega) (by decide), nm_e ⟨vp_in_nI (by omega) (by decide), vp_in_nI (by omega) (by decide), nm_e ⟨vp_in_nI (by omega) (by decide), vp_in_nI (by omega) (by decide), nm_e (nm_r (nI_1 np) (nm_r (nI_1 x7) (h _ (fun c hc => ?_))))⟩⟩⟩
  rw [List.length_append, List.length_singleton] at hc
  have f0 := mr_fl0 (P ++ [(p, q, t)]) P.length
  have f1 := mr_fl1 (P ++ [(p, q, t)]) P.length
  have f2 := mr_fl2 (P ++ [(p, q, t)]) P.length
  rw [mr_fl_new, hP] at f0 f1 f2
  by_cases x2 : c = 3 * np + 2
  · rw [x2, pk_us, f2]
  · by_cases x1 : c = 3 * np + 1
    · rw [x1, pk_un (by omega), pk_us, f1]
    · by_cases x0 : c = 3 * np
      · rw [x0, pk_un (by omega), pk_un (by omega), pk_us, f0]
      · rw [pk_un x2, pk_un x1, pk_un x0, mr_fl_old (by omega)]
        exact hold c (by omega)
end
end
section
/-! the reference's peel: the round's decision -/
theorem yg_left {a b : List Nat} {k : Nat} (h : k < a.length) : (a ++ b).getD k 0 = a.getD k 0 := by
  rw [List.getD_eq_getElem?_getD, List.getD_eq_getElem?_getD, List.getElem?_append_left h]
theorem yg_right {a b : List Nat} {k : Nat} : (a ++ b).getD (a.length + k) 0 = b.getD k 0 := by
  rw [List.getD_eq_getElem?_getD, List.getD_eq_getElem?_getD, List.getElem?_append_right (by omega), Nat.add_sub_cancel_left]
theorem yg_mem {l : List Nat} {j : Nat} (h : j < l.length) : l.getD j 0 ∈ l := by
  rw [List.getD_eq_getElem?_getD, List.getElem?_eq_getElem h]
  exact List.getElem_mem h
theorem yw_new {rows rl : Nat → Int32} {x : Nat} {seg : List Nat} {r : List (List Nat)} (h0 : rows (40 * r.length) = nI x) (h1 : ∀ j, j < seg.length → rows (40 * r.length + 1 + j) = nI (seg.getD j 0)) (h2 : rl r.length = nI (seg.length + 1)) (hr : yw_sk rows rl r) : yw_sk rows rl ((x :: seg) :: r) := by
  refine ⟨h2, fun j hj => ?_, hr⟩
  cases j with
  | zero => exact h0
  | succ j =>
    rw [List.length_cons] at hj
    rw [show 40 * r.length + (j + 1) = 40 * r.length + 1 + j by omega, h1 j (by omega)]
    rfl
section
variable {f_triangleLimit f_vertexLimit f_slotCount f_draftCount f_viewLength f_peelLength f_peelVertices f_peelBoundary : Int32} {a_draft a_slotList a_slotLength a_slotVertices a_slotBoundary a_viewList a_peelList a_number a_taken a_loop a_rows a_rowLength : Nat → Int32} {J : Int32 → Int32 → Int32 → Int32 → Int32 → Int32 → Int32 → Int32 → Int32 → Int32 → (Nat → Int32) → (Nat → Int32) → (Nat → Int32) → (Nat → Int32) → (Nat → Int32) → (Nat → Int32) → (Nat → Int32) → (Nat → Int32) → (Nat → Int32) → (Nat → Int32) → (Nat → Int32) → (Nat → Int32) → Prop}
theorem yp_step {post : Int32 → SY → Prop} {n V x7 p q : Nat} {e : Nat → Nat} {bs tl : List Nat} {rest : List (List Nat)} {vs : List Nat} {P : List (Nat × Nat × Nat)} {ws : List Nat}
    (hc : f_draftCount = nI n) (hn : n ≤ 32) (hV : V ≤ 32) (he : md_Ok n V e) (ha : ∀ c, c < 96 → a_draft c = nI (e c)) (hx7 : x7 < 100)
    (hI : mr_I n V e bs ((p :: q :: tl) :: rest) vs P ws) (hR : yp_R n V e ((p :: q :: tl) :: rest) vs P f_peelLength f_peelVertices a_peelList a_number a_taken a_rows a_rowLength)
    (h1 : ∀ (s' : List (List Nat)) (vs' : List Nat) (P' : List (Nat × Nat × Nat)) (ws' : List Nat) (pl pv : Int32) (pL num tk loop rows rl : Nat → Int32), mr_pe (md_T n e) ((p :: q :: tl) :: rest) vs P ws s' vs' P' ws' → yp_R n V e s' vs' P' pl pv pL num tk rows rl →
      J (nI s'.length) (nI (x7 + 1)) f_triangleLimit f_vertexLimit f_slotCount f_draftCount f_viewLength pl pv f_peelBoundary a_draft a_slotList a_slotLength a_slotVertices a_slotBoundary a_viewList pL num tk loop rows rl)
    (h0 : (∀ s' vs' P' ws', ¬ mr_pe (md_T n e) ((p :: q :: tl) :: rest) vs P ws s' vs' P' ws') → ∀ loop tk : Nat → Int32, post (-8) (f_triangleLimit, f_vertexLimit, f_slotCount, f_draftCount, f_viewLength, f_peelLength, f_peelVertices, f_peelBoundary, a_draft, a_slotList, a_slotLength, a_slotVertices, a_slotBoundary, a_viewList, a_peelList, a_number, tk, loop, a_rows, a_rowLength)) :
    ∃ m, wY_peel_249 post J (nI (p :: q :: tl).length) (nI rest.length) (nI x7) f_triangleLimit f_vertexLimit f_slotCount f_draftCount f_viewLength f_peelLength f_peelVertices f_peelBoundary m 0 a_draft a_slotList a_slotLength a_slotVertices a_slotBoundary a_viewList a_peelList a_number a_taken a_loop a_rows a_rowLength := by
  obtain ⟨hsk, hsl, rfl, rfl, hnum, htk, hpL⟩ := hR
  obtain ⟨r1, r2, r3⟩ := mr_room hI
  obtain ⟨nd, len3, lin⟩ := hI.1 _ (List.mem_cons_self)
  have lenle : ∀ l, l ∈ (p :: q :: tl) :: rest → l.length ≤ 32 := by
    intro l hl
    obtain ⟨a1, _, a3⟩ := hI.1 l hl
    have := List.Nodup.length_le_of_subset a1 (fun x hx => a3 x hx)
    omega
  have hm32 := lenle _ (List.mem_cons_self)
  simp only [List.length_cons] at hm32 len3 hsl
  have mp : p ∈ vs := lin p (by simp)
  have mq : q ∈ vs := lin q (by simp)
  have hp : p < V := hI.2.2.1 p mp
  have hq : q < V := hI.2.2.1 q mq
  have hPv : ∀ c, c < 3 * P.length → mr_fl P c ∈ vs := by
    intro c hc'
    have := mr_fl_T (Tp := fun p q t => p ∈ vs ∧ q ∈ vs ∧ t ∈ vs) (fun p q t z => ⟨z.2.1, z.2.2, z.1⟩) (P := P) (fun p q t hm => (hI.2.2.2.2.1 p q t hm).2) (c := c) hc'
    exact this.1
  have hpe_top : ∀ s' vs' P' ws', mr_pe (md_T n e) ((p :: q :: tl) :: rest) vs P ws s' vs' P' ws' → ∃ t w, md_T n e p q t ∧ ¬ mr_in P p q t ∧ ((w = 0 ∧ t ∉ vs) ∨ (w ≠ 0 ∧ t ∈ vs)) ∧ mr_rs w p q t ((p :: q :: tl) :: rest) s' := by
    rintro s' vs' P' ws' ⟨w, p', q', t, b1, b2, b3, b4, _, _⟩
    have ee : p' = p ∧ q' = q := by
      obtain ⟨tl', rest', ee, _⟩ := b1
      simp only [List.cons.injEq] at ee
      exact ⟨ee.1.1.symm, ee.1.2.1.symm⟩
    obtain ⟨rfl, rfl⟩ := ee
    refine ⟨t, w, b3, b4, ?_, b1⟩
    rcases b2 with ⟨x, y, _⟩ | ⟨x, y, _⟩
    · exact Or.inl ⟨x, y⟩
    · exact Or.inr ⟨x, y⟩
  refine ⟨tl.length + 3, ys_copy (l := p :: q :: tl) (by omega) (by simp only [List.length_cons]; omega) hsk.2.1 (fun loop hlo fuel => ?_) (tl.length + 3) 0 (by simp only [List.length_cons]; omega) (by omega) _ (fun j hj => absurd hj (Nat.not_lt_zero _))⟩
  have l0 : loop 0 = nI p := hlo 0 (by simp only [List.length_cons]; omega)
  have l1' : loop 1 = nI q := hlo 1 (by simp only [List.length_cons]; omega)
  have l2' : ∀ j, j < tl.length → loop (2 + j) = nI (tl.getD j 0) := by
    intro j hj
    have := hlo (2 + j) (by simp only [List.length_cons]; omega)
    rw [this, Nat.add_comm 2 j]
    rfl
  rw [wY_peel_249]
  dsimp only
  rw [l0, l1']
  refine br_t (nI_le (Nat.le_refl _) (by simp only [List.length_cons]; omega)) (nm_e (nm_e ?_))
  refine ya_owner_at hc hn hV he ha (by omega) (by omega) (fun c hc' e1 e2 => ?_) (fun hns => ?_)
  · have hT : md_T n e p q (e (mq_nx (mq_nx c))) := ⟨c, hc', e1, e2, rfl⟩
    have htl := (md_T_lt he hT).2.2
    have hne := md_T_ne he hT
    have htri : mr_tri e (c / 3) P ↔ mr_in P p q (e (mq_nx (mq_nx c))) := by rw [← mr_tri_at, e1, e2]
    have htkc := htk (c / 3) (by omega)
    refine br_f (nI_pos (by omega)) ⟨vp_in_nI (by omega) (by decide), ?_⟩
    rw [nI_clamp (n := c / 3) (by omega)]
    by_cases hin : mr_in P p q (e (mq_nx (mq_nx c)))
    · refine br_f (fun z => htkc.mp z (htri.mpr hin)) (h0 ?_ _ _)
      intro s' vs' P' ws' hpp
      obtain ⟨t, w, b1, b2, _⟩ := hpe_top s' vs' P' ws' hpp
      rw [← md_T_fun he hT b1] at b2
      exact b2 hin
    · refine br_t (htkc.mpr (fun z => hin (htri.mp z))) ⟨vp_in_nI (by omega) (by decide), nm_e ?_⟩
      refine ya_apex hc hn hV he ha _ _ (fun c' hc'' f1 f2 => ?_) (fun hno => absurd ⟨by rw [e1], by rw [e2]⟩ (hno c hc'))
      have ecc : c' = c := by
        have k1 := he.1 c' hc''
        have k2 := he.1 _ (mq_lt hc'')
        refine he.2.2 c' c hc'' hc' ?_ ?_
        · rw [e1]; exact (mn_inj (by omega) (by omega) f1).symm
        · rw [e2]; exact (mn_inj (by omega) (by omega) f2).symm
      subst ecc
      have roomlt := mr_room_lt he hI hT hin
      refine br_t (nI_pos' (by omega)) ?_
      have htk' : ∀ f, f < n → (upd a_taken (c' / 3) (vp_nar .boolean 1) f = 0 ↔ ¬ mr_tri e f (P ++ [(p, q, e (mq_nx (mq_nx c')))])) := by
        intro f hf
        have := mr_tri_put (P := P) he hc' hf
        rw [e1, e2] at this
        rw [this]
        by_cases ef : f = c' / 3
        · rw [ef, pk_us, yp_b1]
          exact ⟨fun z => absurd z ar_n1, fun z => absurd (Or.inr rfl) z⟩
        · rw [pk_un ef, htk f hf]
          exact ⟨fun z z' => z'.elim z ef, fun z z' => z (Or.inl z')⟩
      generalize e (mq_nx (mq_nx c')) = t at *
      generalize upd a_taken (c' / 3) (vp_nar .boolean 1) = tk' at *
      have fin : ∀ (w : Nat) (s' : List (List Nat)) (vs' : List Nat) (num' loop' rows' rl' : Nat → Int32) (x6 : Int32), mr_rs w p q t ((p :: q :: tl) :: rest) s' → ((w = 0 ∧ t ∉ vs ∧ vs' = vs ++ [t]) ∨ (w ≠ 0 ∧ t ∈ vs ∧ vs' = vs)) → yw_sk rows' rl' s' → s'.length ≤ P.length + 2 →
          (∀ x, x < V → ((x ∈ vs' ∧ num' x = nI (vs'.idxOf x)) ∨ (x ∉ vs' ∧ num' x = -1))) → x6 = nI s'.length →
          wY_peel_555 post J x6 (nI x7) (nI p) (nI q) (nI t) f_triangleLimit f_vertexLimit f_slotCount f_draftCount f_viewLength (nI P.length) (nI vs'.length) f_peelBoundary a_draft a_slotList a_slotLength a_slotVertices a_slotBoundary a_viewList a_peelList num' tk' loop' rows' rl' := by
        intro w s' vs' num' loop' rows' rl' x6 hrs hvs hsk' hsl' hnum' hx6
        subst hx6
        have hmono : ∀ x, x ∈ vs → x ∈ vs' ∧ vs'.idxOf x = vs.idxOf x := by
          intro x hx
          rcases hvs with ⟨_, _, rfl⟩ | ⟨_, _, rfl⟩
          · exact ⟨List.mem_append_left _ hx, yp_idx hx⟩
          · exact ⟨hx, rfl⟩
        have mt : t ∈ vs' := by
          rcases hvs with ⟨_, _, rfl⟩ | ⟨_, z, rfl⟩
          · simp
          · exact z
        refine ys_555 (P := P) (vs := vs') hV hp hq htl (by omega : P.length < 32) rfl hx7 hnum' (hmono p mp).1 (hmono q mq).1 mt rfl (fun c hc => ?_) (fun pL hpL' => ?_)
        · rw [hpL c hc, (hmono _ (hPv c hc)).2]
        · refine h1 s' vs' (P ++ [(p, q, t)]) (ws ++ [w]) _ _ _ _ _ _ _ _ ⟨w, p, q, t, hrs, hvs, hT, hin, rfl, rfl⟩ ⟨hsk', ?_, ?_, rfl, hnum', htk', hpL'⟩
          · rw [List.length_append, List.length_singleton]; omega
          · rw [List.length_append, List.length_singleton]
      have hrest : ∀ (dp : Nat) (rows' rl' : Nat → Int32), (∀ j, j < 40 * rest.length → rows' j = a_rows j) → (∀ j, j < rest.length → rl' j = a_rowLength j) → yw_sk rows' rl' rest := by
        intro _ rows' rl' k1 k2
        exact yw_sk_fr hsk.2.2 (fun l hl => by have := lenle l (List.mem_cons_of_mem _ hl); omega) k1 k2
      have hlt : t < 32 := by omega
      have hloopne : ∀ i, 2 ≤ i → i < tl.length + 2 → (tl.getD (i - 2) 0 ≠ t) → loop i ≠ nI t := by
        intro i hi1 hi2 hne' z
        have hz := l2' (i - 2) (by omega)
        rw [show 2 + (i - 2) = i by omega, z] at hz
        have hmem : tl.getD (i - 2) 0 ∈ vs := lin _ (List.mem_cons_of_mem _ (List.mem_cons_of_mem _ (yg_mem (by omega))))
        have hb := hI.2.2.1 _ hmem
        exact hne' (mn_inj hlt (by omega) hz).symm
      have hlenm : (p :: q :: tl).length = tl.length + 2 := rfl
      rw [hlenm]
      by_cases hv : t ∈ vs
      · have hnt : a_number t = nI (vs.idxOf t) := by
          rcases hnum t htl with ⟨_, z⟩ | ⟨z, _⟩
          · exact z
          · exact absurd hv z
        have hidx := List.idxOf_lt_length_of_mem hv
        by_cases hmem : t ∈ tl
        · obtain ⟨l1, l2, rfl⟩ := List.append_of_mem hmem
          obtain ⟨n1, n2, n3, n4, n5, n6, n7, n8, n9, n10, n11, n12⟩ := mr_nd_t nd
          have lenl : (l1 ++ t :: l2).length = l1.length + (l2.length + 1) := by rw [List.length_append, List.length_cons]
          refine ⟨(1 + l2.length) + 1 + l1.length, ?_⟩
          refine ys_skip (b := 2 + l1.length) (by omega) (by omega) l1.length 2 rfl (fun i hi1 hi2 => ?_) _ ?_
          · refine hloopne i hi1 (by omega) ?_
            rw [yg_left (by omega)]
            intro z
            exact n1 (z ▸ yg_mem (by omega))
          rw [wY_peel_358]
          dsimp only
          have hhit : loop (2 + l1.length) = nI t := by
            rw [l2' _ (by omega)]
            have := yg_right (a := l1) (b := t :: l2) (k := 0)
            rw [Nat.add_zero] at this
            rw [this]; rfl
          rw [nI_clamp (n := 2 + l1.length) (by omega), hhit]
          refine br_f (nI_ge (by omega) (by omega)) ⟨vp_in_nI (by omega) (by decide), br_t rfl (nm_r (nI_1 _) ?_)⟩
          refine ys_skip (b := (l1 ++ t :: l2).length + 2) (by omega) (by omega) l2.length (2 + l1.length + 1) (by omega) (fun i hi1 hi2 => ?_) _ ?_
          · refine hloopne i (by omega) (by omega) ?_
            obtain ⟨k, hk⟩ : ∃ k, i - 2 = l1.length + (k + 1) := ⟨i - 2 - l1.length - 1, by omega⟩
            rw [hk, yg_right]
            intro z
            exact n2 (z ▸ yg_mem (l := l2) (j := k) (by omega))
          rw [wY_peel_358]
          dsimp only
          rw [nI_clamp (n := t) (by omega), hnt]
          refine br_t (nI_le (Nat.le_refl _) (by omega)) ⟨vp_in_nI hlt (by decide), br_t (nI_pos' (by omega)) (br_t (nI_pos' (by omega)) ?_)⟩
          have hq0 : ∀ j, j < l1.length + 1 → loop (1 + j) = nI ((q :: l1).getD j 0) := by
            intro j hj
            cases j with
            | zero => exact l1'
            | succ j =>
              rw [show 1 + (j + 1) = 2 + j by omega, l2' j (by omega), yg_left (by omega)]
              rfl
          have ht0 : ∀ j, j < l2.length + 1 → loop (2 + l1.length + j) = nI ((t :: l2).getD j 0) := by
            intro j hj
            rw [Nat.add_assoc, l2' _ (by omega), yg_right]
          have g483 : l1 ≠ [] ∨ (l1 = [] ∧ l2 = []) → wY_peel_483 post J (nI ((l1 ++ t :: l2).length + 2)) (nI rest.length) (nI x7) (nI p) (nI q) (nI t) (nI (2 + l1.length)) f_triangleLimit f_vertexLimit f_slotCount f_draftCount f_viewLength (nI P.length) (nI vs.length) f_peelBoundary a_draft a_slotList a_slotLength a_slotVertices a_slotBoundary a_viewList a_peelList a_number tk' loop a_rows a_rowLength := by
            intro hcs
            have g517 : (l1 = [] ∧ l2 = []) ∨ (l1 ≠ [] ∧ l2 ≠ []) → wY_peel_517 post J (nI ((l1 ++ t :: l2).length + 2)) (nI rest.length) (nI x7) (nI p) (nI q) (nI t) (nI (2 + l1.length)) f_triangleLimit f_vertexLimit f_slotCount f_draftCount f_viewLength (nI P.length) (nI vs.length) f_peelBoundary a_draft a_slotList a_slotLength a_slotVertices a_slotBoundary a_viewList a_peelList a_number tk' loop a_rows a_rowLength := by
              intro hcs'
              unfold wY_peel_517
              rcases hcs' with ⟨z1, z2⟩ | ⟨z1, z2⟩
              · subst z1
                subst z2
                refine br_t (nI_le (b := 3) (by simp) (by decide)) ?_
                exact fin 7 rest vs a_number loop a_rows a_rowLength _ ⟨_, _, rfl, Or.inr ⟨[], [], rfl, Or.inl ⟨rfl, rfl, rfl, rfl⟩⟩⟩ (Or.inr ⟨by decide, hv, rfl⟩) hsk.2.2 (by omega) hnum rfl
              · have p1 : 0 < l1.length := List.length_pos_iff.mpr z1
                have p2 : 0 < l2.length := List.length_pos_iff.mpr z2
                refine br_f (nI_ge (a := 3) (by omega) (by omega)) ?_
                refine ya_push (dp := rest.length) (fr := 2 + l1.length) (len := l2.length + 1) (by omega) (by omega) (by omega) (by omega) (by rw [ar_s1 (by omega)]; exact congrArg nI (by omega)) (fun rowsA rlA a1 a2 a3 a4 a5 => ?_)
                dsimp only
                rw [nI_1]
                refine ya_push (dp := rest.length + 1) (fr := 1) (len := l1.length + 1) (by omega) (by omega) (by omega) (by omega) (by rw [ar_s1 (by omega)]; exact congrArg nI (by omega)) (fun rowsB rlB b1 b2 b3 b4 b5 => ?_)
                dsimp only
                refine nm_r (ar_a2 _) ?_
                refine fin 6 ((t :: q :: l1) :: (p :: t :: l2) :: rest) vs a_number loop rowsB rlB _ ⟨_, _, rfl, Or.inr ⟨l1, l2, rfl, Or.inr (Or.inr (Or.inr ⟨rfl, z1, z2, rfl⟩))⟩⟩ (Or.inr ⟨by decide, hv, rfl⟩) ?_ (by simp only [List.length_cons]; omega) hnum rfl
                refine yw_new (seg := q :: l1) b2 (fun j hj => ?_) b5 ?_
                · rw [List.length_cons] at hj
                  rw [List.length_cons, b3 j (by omega), hq0 j (by omega)]
                · refine yw_new (seg := t :: l2) ?_ (fun j hj => ?_) ?_ (hrest 0 _ _ (fun j hj => ?_) (fun j hj => ?_))
                  · rw [b1 _ (by omega), a2]
                  · rw [List.length_cons] at hj
                    rw [b1 _ (by omega), a3 j (by omega), ht0 j (by omega)]
                  · rw [b4 _ (by omega) (by omega), a5]; rfl
                  · rw [b1 _ (by omega), a1 j hj]
                  · rw [b4 _ (by omega) (by omega), a4 _ (by omega) (by omega)]
            unfold wY_peel_483
            by_cases hm3 : (l1 ++ t :: l2).length + 2 ≤ 3
            · refine br_t (nI_le (b := 3) hm3 (by decide)) (g517 (Or.inl ⟨List.length_eq_zero_iff.mp (by omega), List.length_eq_zero_iff.mp (by omega)⟩))
            · refine br_f (nI_ge (a := 3) (by omega) (by omega)) ?_
              have z1 : l1 ≠ [] := by
                rcases hcs with z | ⟨z, z'⟩
                · exact z
                · rw [z, z'] at hm3; simp at hm3
              have p1 : 0 < l1.length := List.length_pos_iff.mpr z1
              rw [ar_s1 (by omega)]
              refine pk_eq (2 + l1.length) ((l1 ++ t :: l2).length + 2 - 1) (fun ek => ?_) (fun ek => ?_)
              · have z2 : l2 = [] := List.length_eq_zero_iff.mp (by omega)
                subst z2
                refine ya_push (dp := rest.length) (fr := 1) (len := l1.length + 1) (by omega) (by omega) (by omega) (by omega) (by rw [ar_s2 (by omega)]; exact congrArg nI (by simp)) (fun rowsA rlA a1 a2 a3 a4 a5 => ?_)
                dsimp only
                refine nm_r (nI_1 _) ?_
                refine fin 5 ((t :: q :: l1) :: rest) vs a_number loop rowsA rlA _ ⟨_, _, rfl, Or.inr ⟨l1, [], rfl, Or.inr (Or.inr (Or.inl ⟨rfl, z1, rfl, rfl⟩))⟩⟩ (Or.inr ⟨by decide, hv, rfl⟩) ?_ (by simp only [List.length_cons]; omega) hnum rfl
                refine yw_new (seg := q :: l1) a2 (fun j hj => ?_) a5 (hrest 0 _ _ a1 (fun j hj => a4 _ (by omega) (by omega)))
                rw [List.length_cons] at hj
                rw [a3 j (by omega), hq0 j (by omega)]
              · refine g517 (Or.inr ⟨z1, fun z => ek ?_⟩)
                rw [lenl, z]
                simp
                omega
          by_cases hm3 : (l1 ++ t :: l2).length + 2 ≤ 3
          · refine br_t (nI_le (b := 3) hm3 (by decide)) (g483 (Or.inr ⟨List.length_eq_zero_iff.mp (by omega), List.length_eq_zero_iff.mp (by omega)⟩))
          · refine br_f (nI_ge (a := 3) (by omega) (by omega)) ?_
            refine pk_eq (2 + l1.length) 2 (fun ek => ?_) (fun ek => ?_)
            · have z1 : l1 = [] := List.length_eq_zero_iff.mp (by omega)
              subst z1
              have z2 : l2 ≠ [] := by
                intro z
                rw [z] at hm3
                simp at hm3
              refine ya_push (dp := rest.length) (fr := 2) (len := l2.length + 1) (by omega) (by omega) (by omega) (by omega) (by rw [ar_s1 (by omega)]; exact congrArg nI (by simp; omega)) (fun rowsA rlA a1 a2 a3 a4 a5 => ?_)
              dsimp only
              refine nm_r (nI_1 _) ?_
              refine fin 4 ((p :: t :: l2) :: rest) vs a_number loop rowsA rlA _ ⟨_, _, rfl, Or.inr ⟨[], l2, rfl, Or.inr (Or.inl ⟨rfl, rfl, z2, rfl⟩)⟩⟩ (Or.inr ⟨by decide, hv, rfl⟩) ?_ (by simp only [List.length_cons]; omega) hnum rfl
              refine yw_new (seg := t :: l2) a2 (fun j hj => ?_) a5 (hrest 0 _ _ a1 (fun j hj => a4 _ (by omega) (by omega)))
              rw [List.length_cons] at hj
              rw [a3 j (by omega)]
              exact ht0 j (by omega)
            · refine g483 (Or.inl (fun z => ek ?_))
              rw [z]; rfl
        · refine ⟨1 + tl.length, ?_⟩
          refine ys_skip (b := tl.length + 2) (by omega) (by omega) tl.length 2 (by omega) (fun i hi1 hi2 => ?_) _ ?_
          · exact hloopne i hi1 hi2 (fun z => hmem (z ▸ yg_mem (by omega)))
          rw [wY_peel_358]
          dsimp only
          rw [nI_clamp (n := t) (by omega), hnt]
          refine br_t (nI_le (Nat.le_refl _) (by omega)) ⟨vp_in_nI hlt (by decide), br_t (nI_pos' (by omega)) (br_f ar_ng (h0 ?_ _ _))⟩
          intro s' vs' P' ws' hpp
          obtain ⟨t', w, b1, _, b3, b4⟩ := hpe_top s' vs' P' ws' hpp
          have := md_T_fun he hT b1
          subst this
          rcases b3 with ⟨_, z⟩ | ⟨hw, _⟩
          · exact z hv
          · obtain ⟨tl', rest', ee, hcase⟩ := b4
            simp only [List.cons.injEq] at ee
            rcases hcase with ⟨z, _⟩ | ⟨l1, l2, e', _⟩
            · exact hw z
            · exact hmem (by rw [ee.1.2.2, e']; simp)
      · have hnt : a_number t = -1 := by
          rcases hnum t htl with ⟨z, _⟩ | ⟨_, z⟩
          · exact absurd z hv
          · exact z
        have hmem : t ∉ tl := fun z => hv (lin t (by simp [z]))
        refine ⟨1 + tl.length, ?_⟩
        refine ys_skip (b := tl.length + 2) (by omega) (by omega) tl.length 2 (by omega) (fun i hi1 hi2 => ?_) _ ?_
        · exact hloopne i hi1 hi2 (fun z => hmem (z ▸ yg_mem (by omega)))
        rw [wY_peel_358]
        dsimp only
        rw [nI_clamp (n := t) (by omega), hnt, nI_clamp (n := tl.length + 2) (by omega)]
        refine br_t (nI_le (Nat.le_refl _) (by omega)) ⟨vp_in_nI hlt (by decide), br_f ar_ng ⟨vp_in_nI hlt (by decide), nm_e (nm_r (nI_1 _) ⟨vp_in_nI (by omega) (by decide), nm_e ?_⟩)⟩⟩
        have hlen' : vs.length < V := by
          have := mb_nodup_lt (n := V) (l := vs ++ [t]) (by
            rw [List.nodup_append]
            refine ⟨hI.2.1, by simp, fun a ha b hb z => ?_⟩
            rw [List.mem_singleton.mp hb] at z
            exact hv (z ▸ ha)) (fun x hx => by
            rcases List.mem_append.mp hx with hx | hx
            · exact hI.2.2.1 x hx
            · rw [List.mem_singleton.mp hx]; exact htl)
          rw [List.length_append, List.length_singleton] at this
          omega
        refine ya_push (dp := rest.length) (fr := 1) (len := tl.length + 2) (by omega) (by omega) (by omega) (by omega) (congrArg nI (by omega)) (fun rowsA rlA a1 a2 a3 a4 a5 => ?_)
        dsimp only
        refine nm_r (nI_1 _) ?_
        have := fin 0 ((t :: q :: (tl ++ [p])) :: rest) (vs ++ [t]) (upd a_number t (nI vs.length)) (upd loop (tl.length + 2) (nI p)) rowsA rlA (nI (rest.length + 1)) ⟨_, _, rfl, Or.inl ⟨rfl, rfl⟩⟩ (Or.inl ⟨rfl, hv, rfl⟩) ?_ (by simp only [List.length_cons]; omega) (fun x hx => ?_) rfl
        · rw [List.length_append, List.length_singleton] at this
          exact this
        · refine yw_new (seg := q :: (tl ++ [p])) a2 (fun j hj => ?_) ?_ (hrest 0 _ _ a1 (fun j hj => a4 _ (by omega) (by omega)))
          · simp only [List.length_cons, List.length_append, List.length_nil] at hj
            rw [a3 j (by omega)]
            by_cases ej : j = tl.length + 1
            · rw [show 1 + j = tl.length + 2 by omega, pk_us, ej]
              have := yg_right (a := q :: tl) (b := [p]) (k := 0)
              rw [Nat.add_zero, List.length_cons] at this
              exact congrArg nI this.symm
            · rw [pk_un (by omega)]
              have : (q :: (tl ++ [p])).getD j 0 = (q :: tl).getD j 0 := yg_left (a := q :: tl) (b := [p]) (by rw [List.length_cons]; omega)
              rw [this]
              cases j with
              | zero => exact l1'
              | succ j =>
                rw [show 1 + (j + 1) = 2 + j by omega, l2' j (by omega)]
                rfl
          · rw [a5]
            exact congrArg nI (by simp)
        · by_cases ex : x = t
          · subst ex
            exact Or.inl ⟨by simp, by rw [pk_us, yp_idx_new hv]⟩
          · rw [pk_un ex]
            rcases hnum x hx with ⟨z1, z2⟩ | ⟨z1, z2⟩
            · exact Or.inl ⟨List.mem_append_left _ z1, by rw [yp_idx z1]; exact z2⟩
            · refine Or.inr ⟨fun z => ?_, z2⟩
              rcases List.mem_append.mp z with z | z
              · exact z1 z
              · exact ex (List.mem_singleton.mp z)
  · refine br_t ar_lg (h0 ?_ _ _)
    intro s' vs' P' ws' hpp
    obtain ⟨t, w, b1, _⟩ := hpe_top s' vs' P' ws' hpp
    exact hns (md_T_S.mpr ⟨t, b1⟩)
end
end
section
/-! the reference's peel against the pure outcome -/
section
variable {f_triangleLimit f_vertexLimit f_slotCount f_draftCount f_viewLength f_peelLength f_peelVertices f_peelBoundary : Int32} {a_draft a_slotList a_slotLength a_slotVertices a_slotBoundary a_viewList a_peelList a_number a_taken a_loop a_rows a_rowLength : Nat → Int32}
theorem yp_632 {post : Int32 → SY → Prop} {n : Nat} (hc : f_draftCount = nI n) (hn : n ≤ 32) (h0 : (∃ f, f < n ∧ a_taken f = 0) → post (-8) (f_triangleLimit, f_vertexLimit, f_slotCount, f_draftCount, f_viewLength, f_peelLength, f_peelVertices, f_peelBoundary, a_draft, a_slotList, a_slotLength, a_slotVertices, a_slotBoundary, a_viewList, a_peelList, a_number, a_taken, a_loop, a_rows, a_rowLength)) (h1 : (∀ f, f < n → ¬ a_taken f = 0) → post 0 (f_triangleLimit, f_vertexLimit, f_slotCount, f_draftCount, f_viewLength, f_peelLength, f_peelVertices, f_peelBoundary, a_draft, a_slotList, a_slotLength, a_slotVertices, a_slotBoundary, a_viewList, a_peelList, a_number, a_taken, a_loop, a_rows, a_rowLength)) :
    ∀ m i, n - i < m → i ≤ n → (∀ f, f < i → ¬ a_taken f = 0) → wY_peel_632 post f_triangleLimit f_vertexLimit f_slotCount f_draftCount f_viewLength f_peelLength f_peelVertices f_peelBoundary a_draft a_slotList a_slotLength a_slotVertices a_slotBoundary a_viewList a_peelList a_number a_taken a_loop a_rows a_rowLength m (nI i) := by
  subst hc
  intro m
  induction m with
  | zero => intro i hm; omega
  | succ m ih =>
    intro i hm hi ht
    rw [wY_peel_632]
    dsimp only
    refine pk_le n i (fun hle => h1 (fun f hf => ht f (by omega))) (fun hlt => ?_)
    rw [nI_clamp (by omega)]
    refine ⟨vp_in_nI (by omega) (by decide), br_c (fun z => h0 ⟨i, hlt, z⟩) (fun z => nm_r (nI_1 i) (ih (i + 1) (by omega) (by omega) (fun f hf => ?_)))⟩
    by_cases e : f = i
    · rw [e]; exact z
    · exact ht f (by omega)
theorem yp_loop {post : Int32 → SY → Prop} {n V : Nat} {e : Nat → Nat} {bs : List Nat} {res : Option (List Nat × List (Nat × Nat × Nat) × List Nat)}
    (hc : f_draftCount = nI n) (hn : n ≤ 32) (hV : V ≤ 32) (he : md_Ok n V e) (ha : ∀ c, c < 96 → a_draft c = nI (e c))
    (h0 : (res = none ∨ ∃ vs' P' ws', res = some (vs', P', ws') ∧ P'.length ≠ n) → ∀ (pl pv : Int32) (pL num tk loop rows rl : Nat → Int32), post (-8) (f_triangleLimit, f_vertexLimit, f_slotCount, f_draftCount, f_viewLength, pl, pv, f_peelBoundary, a_draft, a_slotList, a_slotLength, a_slotVertices, a_slotBoundary, a_viewList, pL, num, tk, loop, rows, rl))
    (h1 : ∀ vs P ws, res = some (vs, P, ws) → P.length = n → ∀ (pL num tk loop rows rl : Nat → Int32), (∀ c, c < 3 * n → pL c = nI (vs.idxOf (mr_fl P c))) → post 0 (f_triangleLimit, f_vertexLimit, f_slotCount, f_draftCount, f_viewLength, nI n, nI vs.length, f_peelBoundary, a_draft, a_slotList, a_slotLength, a_slotVertices, a_slotBoundary, a_viewList, pL, num, tk, loop, rows, rl)) :
    ∀ (k : Nat) (s : List (List Nat)) (vs : List Nat) (P : List (Nat × Nat × Nat)) (ws : List Nat), mr_pr (md_T n e) k s vs P ws res → mr_I n V e bs s vs P ws → k + P.length = 33 →
      ∀ (pl pv : Int32) (pL num tk loop rows rl : Nat → Int32), yp_R n V e s vs P pl pv pL num tk rows rl →
      wY_peel_222 post (k + 1) (nI s.length) (nI P.length) f_triangleLimit f_vertexLimit f_slotCount f_draftCount f_viewLength pl pv f_peelBoundary a_draft a_slotList a_slotLength a_slotVertices a_slotBoundary a_viewList pL num tk loop rows rl := by
  intro k
  induction k with
  | zero =>
    intro s vs P ws _ hI hk
    have := (mr_room hI).1
    omega
  | succ k ih =>
    intro s vs P ws hr hI hk pl pv pL num tk loop rows rl hR
    have hroom := mr_room hI
    rw [wY_peel_222]
    dsimp only
    refine br_f (nI_nlt (a := 32) (by omega) (by decide)) ?_
    rcases hr with ⟨rfl, er⟩ | ⟨hs, hr⟩
    · refine br_t (nI_le (a := 0) (b := 0) (by decide) (by decide)) ⟨n + 1, ?_⟩
      obtain ⟨_, _, rfl, rfl, _, htk, hpL⟩ := hR
      obtain ⟨_, _, _, _, _, _, i7, _, _⟩ := hI
      refine yp_632 hc hn ?_ ?_ (n + 1) 0 (by omega) (by omega) (fun f hf => absurd hf (Nat.not_lt_zero _))
      · rintro ⟨f, hf, z⟩
        refine h0 (Or.inr ⟨vs, P, ws, er, fun hlen => ?_⟩) _ _ _ _ _ _ _ _
        rw [hlen] at i7
        exact (htk f hf).mp z ((mb_cn_all _ n).mp i7 f hf)
      · intro hz
        have hall : ∀ f, f < n → mr_tri e f P := fun f hf => Classical.byContradiction fun hno => hz f hf ((htk f hf).mpr hno)
        have hlen : P.length = n := by rw [← i7]; exact (mb_cn_all _ n).mpr hall
        rw [hlen] at hpL
        rw [hlen]
        exact h1 vs P ws er hlen _ _ _ _ _ _ hpL
    · obtain ⟨p, q, tl, rest, rfl⟩ : ∃ p q tl rest, s = (p :: q :: tl) :: rest := by
        cases s with
        | nil => exact absurd rfl hs
        | cons l rest =>
          have := (hI.1 l (List.mem_cons_self)).2.1
          match l, this with
          | p :: q :: tl, _ => exact ⟨p, q, tl, rest, rfl⟩
          | [], z => exact absurd z (by decide)
          | [_], z => exact absurd z (by simp)
      have hsl := hR.2.1
      rw [List.length_cons] at hsl
      rw [List.length_cons]
      refine br_f (nI_nle (by omega) (by omega)) (nm_r (pk_m1 _) ?_)
      rw [nI_clamp (by omega), hR.1.1]
      refine ⟨vp_in_nI (by omega) (by decide), nm_e ?_⟩
      refine yp_step (bs := bs) hc hn hV he ha (by omega) hI hR (fun s' vs' P' ws' pl' pv' pL' num' tk' loop' rows' rl' hp hR' => ?_) (fun hno loop' tk' => ?_)
      · rcases hr with ⟨s2, vs2, P2, ws2, hp2, hr2⟩ | ⟨hno, _⟩
        · obtain ⟨rfl, rfl, rfl, rfl⟩ := mr_pe_det he (fun l hl => (hI.1 l hl).1) hp hp2
          have hlen : P'.length = P.length + 1 := by
            obtain ⟨w, p, q, t, _, _, _, _, e', _⟩ := hp
            rw [e', List.length_append, List.length_singleton]
          rw [← hlen]
          exact ih s' vs' P' ws' hr2 (mr_I_step he hI hp) (by omega) _ _ _ _ _ _ _ _ hR'
        · exact absurd hp (hno s' vs' P' ws')
      · rcases hr with ⟨s2, vs2, P2, ws2, hp2, _⟩ | ⟨_, e'⟩
        · exact absurd hp2 (hno s2 vs2 P2 ws2)
        · exact h0 (Or.inl e') _ _ _ _ _ _ _ _
theorem yp_peel {post : Int32 → SY → Prop} {n V : Nat} {e : Nat → Nat} {p0 p1 r : Int32} {L : Nat} {vs : List Nat} {P : List (Nat × Nat × Nat)} {ws : List Nat}
    (hv : f_vertexLimit = nI V) (hc : f_draftCount = nI n) (hn : n ≤ 32) (hV : V ≤ 32) (he : md_Ok n V e) (ha : ∀ c, c < 96 → a_draft c = nI (e c))
    (ho : mo_Out n (md_T n e) (md_B n e) p0 p1 r L vs P ws)
    (h : ∀ (pl pv pb : Int32) (pL num tk loop rows rl : Nat → Int32), (r = 0 → pl = nI n ∧ pv = nI vs.length ∧ pb = nI L ∧ ∀ c, c < 3 * n → pL c = nI (vs.idxOf (mr_fl P c))) →
      post r (f_triangleLimit, f_vertexLimit, f_slotCount, f_draftCount, f_viewLength, pl, pv, pb, a_draft, a_slotList, a_slotLength, a_slotVertices, a_slotBoundary, a_viewList, pL, num, tk, loop, rows, rl)) :
    wpY_peel post (f_triangleLimit, f_vertexLimit, f_slotCount, f_draftCount, f_viewLength, f_peelLength, f_peelVertices, f_peelBoundary, a_draft, a_slotList, a_slotLength, a_slotVertices, a_slotBoundary, a_viewList, a_peelList, a_number, a_taken, a_loop, a_rows, a_rowLength) p0 p1 := by
  unfold wpY_peel
  dsimp only
  rcases ho with ⟨rfl, hno⟩ | ⟨p, q, rfl, rfl, hb, ho⟩
  · refine ya_bd hc hn hV he ha _ _ (fun p q e1 e2 hb => absurd ⟨p, q, e1, e2, hb⟩ hno) (fun _ => br_t rfl ?_)
    exact h _ _ _ _ _ _ _ _ _ (fun z => absurd z (by decide))
  · refine ya_bd hc hn hV he ha _ _ (fun p' q' e1 e2 hb' => ?_) (fun hno => absurd ⟨p, q, rfl, rfl, hb⟩ hno)
    refine br_f ar_n1 ⟨V + 1, ?_⟩
    refine yc_17 (e := e) hv hc hn hV he ha (fun hone num => ?_) (fun hone num hnum => ?_) (V + 1) 0 (by omega) (by omega) (fun x' hx' => absurd hx' (Nat.not_lt_zero _)) _ (fun x' hx' => absurd hx' (Nat.not_lt_zero _))
    · rcases ho with ⟨rfl, _⟩ | ⟨h1, _⟩
      · exact h _ _ _ _ _ _ _ _ _ (fun z => absurd z (by decide))
      · exact absurd h1 hone
    · rcases ho with ⟨_, h1⟩ | ⟨_, y, hcy, ho⟩
      · exact absurd hone h1
      · obtain ⟨b1, b2, b3⟩ := mo_cyc_le he hV hcy
        have hyl : ∀ i, y i < V := mo_cyc_lt he hcy
        obtain ⟨c1, c2, c3, c4, c5, c6⟩ := hcy
        have ebc : mb_cn (fun x => ∃ z, md_B n e x z) V = mo_bc (md_B n e) := (mb_cn_ext hV (fun x _ ⟨z, hz⟩ => (md_S_lt he hz.1).1)).symm
        rw [ebc]
        refine ⟨L + 1, ?_⟩
        rw [← c2]
        refine yc_98 (e := e) (L := L) (y := y) hv hc hn hV he ha hone c1 b3 hyl (c4.trans c2.symm) c5 c6 (fun loop num' hlo hnu => ?_) (L + 1) 0 (by omega) (by omega) _ _ (fun j hj => absurd hj (Nat.not_lt_zero _)) (fun x hx => Or.inr ⟨fun j hj => absurd hj (Nat.not_lt_zero _), hnum x hx⟩)
        unfold wY_peel_155
        refine pk_eq L (mo_bc (md_B n e)) (fun eL => ?_) (fun eL => ?_)
        · rcases ho with ⟨_, z⟩ | ⟨_, res, hr, ho⟩
          · exact absurd eL z
          · refine ⟨33, yc_184 (fun tk htk => ?_) 33 0 (by omega) (by omega) _ (fun f hf => absurd hf (Nat.not_lt_zero _))⟩
            refine ya_push (dp := 0) (fr := 1) (len := L - 1) (by omega) (by omega) (by omega) (by omega) (by rw [ar_s1 (by omega)]; exact congrArg nI (by omega)) (fun rows rl a1 a2 a3 a4 a5 => ?_)
            dsimp only
            refine ⟨34, ?_⟩
            refine yp_loop (bs := (List.range L).map y) (res := res) hc hn hV he ha ?_ ?_ 33 [(List.range L).map y] ((List.range L).map y) [] [] hr (mr_I0 he c1 c5 c6) rfl _ _ _ _ _ _ _ _ ?_
            · intro hz pl pv pL num'' tk' loop' rows' rl'
              have er : r = -8 := by
                rcases ho with ⟨z, _⟩ | ⟨_, z, z'⟩
                · exact z
                · rcases hz with w | ⟨vs', P', ws', w, w'⟩
                  · rw [z] at w; exact nomatch w
                  · rw [z] at w
                    simp only [Option.some.injEq, Prod.mk.injEq] at w
                    rw [← w.2.1] at w'
                    exact absurd z' w'
              subst er
              exact h _ _ _ _ _ _ _ _ _ (fun z => absurd z (by decide))
            · intro vs' P' ws' hz hz' pL num'' tk' loop' rows' rl' hpL
              have er : r = 0 ∧ vs = vs' ∧ P = P' := by
                rcases ho with ⟨_, z⟩ | ⟨z, z', _⟩
                · rcases z with z | ⟨vs'', P'', ws'', z, w'⟩
                  · rw [hz] at z; exact nomatch z
                  · rw [hz] at z
                    simp only [Option.some.injEq, Prod.mk.injEq] at z
                    rw [← z.2.1] at w'
                    exact absurd hz' w'
                · rw [hz] at z'
                  simp only [Option.some.injEq, Prod.mk.injEq] at z'
                  exact ⟨z, z'.1.symm, z'.2.1.symm⟩
              obtain ⟨rfl, rfl, rfl⟩ := er
              exact h _ _ _ _ _ _ _ _ _ (fun _ => ⟨rfl, rfl, rfl, hpL⟩)
            · have hll : ((List.range L).map y).length = L := by rw [List.length_map, List.length_range]
              refine ⟨⟨?_, ?_, trivial⟩, Nat.le_refl _, rfl, by rw [hll], ?_, ?_, fun c hc => absurd hc (Nat.not_lt_zero _)⟩
              · rw [hll]
                refine a5.trans (congrArg nI (by omega))
              · intro j hj
                rw [hll] at hj
                rw [yc_get hj]
                show rows (40 * 0 + j) = _
                cases j with
                | zero => exact a2
                | succ j =>
                  rw [show 40 * 0 + (j + 1) = 40 * 0 + 1 + j by omega, a3 j (by omega), hlo _ (by omega), Nat.add_comm]
              · intro x hx
                rcases hnu x hx with ⟨j, k1, rfl, k3⟩ | ⟨k1, k2⟩
                · exact Or.inl ⟨List.mem_map.mpr ⟨j, List.mem_range.mpr k1, rfl⟩, by rw [k3, yc_idx c6 k1]⟩
                · refine Or.inr ⟨fun z => ?_, k2⟩
                  obtain ⟨j, k3, k4⟩ := List.mem_map.mp z
                  exact k1 j (List.mem_range.mp k3) k4
              · intro f hf
                refine ⟨fun _ z => ?_, fun _ => htk f (by omega)⟩
                rcases z with z | z | z <;> exact nomatch z
        · rcases ho with ⟨rfl, _⟩ | ⟨z, _⟩
          · exact h _ _ _ _ _ _ _ _ _ (fun z => absurd z (by decide))
          · exact absurd z eL
end
end
section
/-! the relation -/
def re_B (tl V sc n vn : Nat) : Prop := 8 ≤ tl ∧ tl ≤ 32 ∧ 8 ≤ V ∧ V ≤ 32 ∧ 2 ≤ sc ∧ sc ≤ 4 ∧ n ≤ tl ∧ vn ≤ tl
def re_N (tl V sc n vn : Nat) (a b c d e : Int32) : Prop := a = nI tl ∧ b = nI V ∧ c = nI sc ∧ d = nI n ∧ e = nI vn
def re_D (n V : Nat) (d e : Nat → Nat) (aD aS bD : Nat → Int32) : Prop :=
  md_Ok n V d ∧ md_Ok n V e ∧ md_Sm n d e ∧ xd_Tab n V d aS ∧ (∀ c, c < 96 → aD c = nI (d c)) ∧ (∀ c, c < 96 → bD c = nI (e c))
def re_slot (tl V : Nat) (lc : Int32) (A B : Int64) (sl sv sb : Int32) (sL : Nat → Int32) (o : Nat) : Prop :=
  (lc = 0 ∧ sl = 0) ∨ ∃ m v T ws, mt_Rec m v T ws ∧ v ≤ V ∧ T.length ≤ tl ∧ 1 ≤ T.length ∧ lc = nI T.length ∧ sl = nI T.length ∧ xb_PK A B (mr_cb ws) ∧ (∀ c, c < 3 * T.length → sL (o + c) = nI (mr_fl T c)) ∧ sv = nI v ∧ sb = nI m
def re_V (V vn : Nat) (vN vO vL : Nat → Int32) : Prop :=
  ∃ f : Nat → Nat, md_Ok vn V f ∧ (∀ c, c < 3 * vn → vN c = nI (f c) ∧ vL c = nI (f c)) ∧
    (∀ c, c < 3 * vn → ((∃ c', c' < 3 * vn ∧ vO c = nI c' ∧ f c' = f (mq_nx c) ∧ f (mq_nx c') = f c) ∨ (vO c = -1 ∧ ¬ md_S vn f (f (mq_nx c)) (f c))))
/-- the relation: the same limits and counts, the same triples in the two drafts, the same record in each slot, the same view -/
def i_Rel (_k : Nat) (u : SX) (v : SY) : Prop := match u, v with
  | (f_letterC, f_letterR, f_letterL, f_letterS, f_letterE, f_triangleLimit, f_vertexLimit, f_slotCount, f_draftCount, f_bench, f_bitsUsed, f_nodeCount, f_loopDepth, f_boundaryCount, f_numbered, f_taken, f_nextNumber, f_viewCount, a_draftName, a_sideTable, a_packed, a_letterCount, a_nodeName, a_nodeNext, a_nodePrev, a_nodeGlue, a_loopStack, a_boundaryNext, a_letters, a_offsets, a_lengths, a_viewName, a_viewOpposite), (f_triangleLimit', f_vertexLimit', f_slotCount', f_draftCount', f_viewLength', f_peelLength', f_peelVertices', f_peelBoundary', a_draft', a_slotList', a_slotLength', a_slotVertices', a_slotBoundary', a_viewList', a_peelList', a_number', a_taken', a_loop', a_rows', a_rowLength') => ∃ tl V sc n vn d e, re_B tl V sc n vn ∧ re_N tl V sc n vn f_triangleLimit f_vertexLimit f_slotCount f_draftCount f_viewCount ∧ re_N tl V sc n vn f_triangleLimit' f_vertexLimit' f_slotCount' f_draftCount' f_viewLength' ∧
      re_D n V d e a_draftName a_sideTable a_draft' ∧
      (∀ s, s < sc → re_slot tl V (a_letterCount s) (a_packed (2 * s)) (a_packed (2 * s + 1)) (a_slotLength' s) (a_slotVertices' s) (a_slotBoundary' s) a_slotList' (96 * s)) ∧
      re_V V vn a_viewName a_viewOpposite a_viewList'
theorem i_up {k : Nat} {u : SX} {v : SY} (h : i_Rel k u v) : i_Rel (k + 4) u v := h
theorem re_cl (x : Int32) {lo hi : Nat} (h : lo ≤ hi) (hh : hi < 2 ^ 31) : ∃ z, lo ≤ z ∧ z ≤ hi ∧ ∀ A : Int32 → Prop, A (nI z) → ((nI lo ≤ x → ((x ≤ nI hi → A x) ∧ (¬ x ≤ nI hi → A (nI hi)))) ∧ (¬ nI lo ≤ x → A (nI lo))) := by
  by_cases h1 : nI lo ≤ x
  · by_cases h2 : x ≤ nI hi
    · have h0 : ¬ x < 0 := fun z => by
        rw [Int32.lt_iff_toInt_lt] at z
        rw [Int32.le_iff_toInt_le, nI_toInt (by omega)] at h1
        have e0 : (0 : Int32).toInt = 0 := by decide
        omega
      obtain ⟨j, hj, rfl⟩ := nI_of h0
      rw [nI_leI (by omega) hj] at h1
      rw [nI_leI hj hh] at h2
      exact ⟨j, h1, h2, fun A a => br_t (nI_le h1 hj) (br_t (nI_le h2 hh) a)⟩
    · exact ⟨hi, h, Nat.le_refl _, fun A a => br_t h1 (br_f h2 a)⟩
  · exact ⟨lo, Nat.le_refl _, h, fun A a => br_f h1 a⟩
theorem re_clX {post : Int32 → Prop} {x : Int32} {lo hi z : Nat} (h : ∀ A : Int32 → Prop, A (nI z) → ((nI lo ≤ x → ((x ≤ nI hi → A x) ∧ (¬ x ≤ nI hi → A (nI hi)))) ∧ (¬ nI lo ≤ x → A (nI lo)))) (hp : post (nI z)) : ∀ u : SX, wpX_clamp post u x (nI lo) (nI hi)
  | (f_letterC, f_letterR, f_letterL, f_letterS, f_letterE, f_triangleLimit, f_vertexLimit, f_slotCount, f_draftCount, f_bench, f_bitsUsed, f_nodeCount, f_loopDepth, f_boundaryCount, f_numbered, f_taken, f_nextNumber, f_viewCount, a_draftName, a_sideTable, a_packed, a_letterCount, a_nodeName, a_nodeNext, a_nodePrev, a_nodeGlue, a_loopStack, a_boundaryNext, a_letters, a_offsets, a_lengths, a_viewName, a_viewOpposite) => h post hp
theorem i_vc0 (k0 : Int32) (k1 : Int32) (k2 : Int32) : wpX_init (fun u => wpY_init (fun v => i_Rel 3 u v) k0 k1 k2) k0 k1 k2 := by
  obtain ⟨tl, a1, a2, a3⟩ := re_cl k0 (lo := 8) (hi := 32) (by decide) (by decide)
  obtain ⟨V, b1, b2, b3⟩ := re_cl k1 (lo := 8) (hi := 32) (by decide) (by decide)
  obtain ⟨sc, c1, c2, c3⟩ := re_cl k2 (lo := 2) (hi := 4) (by decide) (by decide)
  unfold wpX_init
  refine re_clX a3 ?_ _
  refine re_clX b3 ?_ _
  refine re_clX c3 ?_ _
  unfold wpY_init
  refine a3 (fun r => wY_init_123 _ _ _ r _ _ _ _ _ _ _ _ _ _ _ _ _ _ _ _ _ _ _ _) ?_
  unfold wY_init_123
  refine b3 (fun r => wY_init_150 _ _ r _ _ _ _ _ _ _ _ _ _ _ _ _ _ _ _ _ _ _ _) ?_
  unfold wY_init_150
  refine c3 (fun r => i_Rel 3 _ (_, _, r, _)) ?_
  refine ⟨tl, V, sc, 0, 0, fun _ => 0, fun _ => 0, ⟨a1, a2, b1, b2, c1, c2, by omega, by omega⟩, ⟨rfl, rfl, rfl, rfl, rfl⟩, ⟨rfl, rfl, rfl, rfl, rfl⟩, ⟨?_, ?_, ?_, ?_, ?_, ?_⟩, ?_, ?_⟩
  · exact ⟨fun c hc => by omega, fun c hc => by omega, fun c c' hc => by omega⟩
  · exact ⟨fun c hc => by omega, fun c hc => by omega, fun c c' hc => by omega⟩
  · exact ⟨fun i hi => by omega, fun i hi => by omega⟩
  · intro p q hp hq
    refine Or.inr ⟨?_, rfl⟩
    rintro ⟨c, hc, _⟩
    omega
  · intro c _; rfl
  · intro c _; rfl
  · intro s hs; exact Or.inl ⟨rfl, rfl⟩
  · exact ⟨fun _ => 0, ⟨fun c hc => by omega, fun c hc => by omega, fun c c' hc => by omega⟩, fun c hc => by omega, fun c hc => by omega⟩
/-- opening the relation -/
theorem re_el {k : Nat} {Q : SX → SY → Prop} (h : ∀ (f_letterC : Int32) (f_letterR : Int32) (f_letterL : Int32) (f_letterS : Int32) (f_letterE : Int32) (f_triangleLimit : Int32) (f_vertexLimit : Int32) (f_slotCount : Int32) (f_draftCount : Int32) (f_bench : Int32) (f_bitsUsed : Int32) (f_nodeCount : Int32) (f_loopDepth : Int32) (f_boundaryCount : Int32) (f_numbered : Int32) (f_taken : Int32) (f_nextNumber : Int32) (f_viewCount : Int32) (a_draftName : Nat → Int32) (a_sideTable : Nat → Int32) (a_packed : Nat → Int64) (a_letterCount : Nat → Int32) (a_nodeName : Nat → Int32) (a_nodeNext : Nat → Int32) (a_nodePrev : Nat → Int32) (a_nodeGlue : Nat → Int32) (a_loopStack : Nat → Int32) (a_boundaryNext : Nat → Int32) (a_letters : Nat → Int32) (a_offsets : Nat → Int32) (a_lengths : Nat → Int32) (a_viewName : Nat → Int32) (a_viewOpposite : Nat → Int32) (g_triangleLimit g_vertexLimit g_slotCount g_draftCount g_viewLength g_peelLength g_peelVertices g_peelBoundary : Int32) (b_draft b_slotList b_slotLength b_slotVertices b_slotBoundary b_viewList b_peelList b_number b_taken b_loop b_rows b_rowLength : Nat → Int32)
      (tl V sc n vn : Nat) (d e : Nat → Nat), re_B tl V sc n vn → re_N tl V sc n vn f_triangleLimit f_vertexLimit f_slotCount f_draftCount f_viewCount → re_N tl V sc n vn g_triangleLimit g_vertexLimit g_slotCount g_draftCount g_viewLength →
      re_D n V d e a_draftName a_sideTable b_draft →
      (∀ s, s < sc → re_slot tl V (a_letterCount s) (a_packed (2 * s)) (a_packed (2 * s + 1)) (b_slotLength s) (b_slotVertices s) (b_slotBoundary s) b_slotList (96 * s)) →
      re_V V vn a_viewName a_viewOpposite b_viewList → Q (f_letterC, f_letterR, f_letterL, f_letterS, f_letterE, f_triangleLimit, f_vertexLimit, f_slotCount, f_draftCount, f_bench, f_bitsUsed, f_nodeCount, f_loopDepth, f_boundaryCount, f_numbered, f_taken, f_nextNumber, f_viewCount, a_draftName, a_sideTable, a_packed, a_letterCount, a_nodeName, a_nodeNext, a_nodePrev, a_nodeGlue, a_loopStack, a_boundaryNext, a_letters, a_offsets, a_lengths, a_viewName, a_viewOpposite) (g_triangleLimit, g_vertexLimit, g_slotCount, g_draftCount, g_viewLength, g_peelLength, g_peelVertices, g_peelBoundary, b_draft, b_slotList, b_slotLength, b_slotVertices, b_slotBoundary, b_viewList, b_peelList, b_number, b_taken, b_loop, b_rows, b_rowLength)) :
    ∀ (u : SX) (v : SY), i_Rel k u v → Q u v
  | (f_letterC, f_letterR, f_letterL, f_letterS, f_letterE, f_triangleLimit, f_vertexLimit, f_slotCount, f_draftCount, f_bench, f_bitsUsed, f_nodeCount, f_loopDepth, f_boundaryCount, f_numbered, f_taken, f_nextNumber, f_viewCount, a_draftName, a_sideTable, a_packed, a_letterCount, a_nodeName, a_nodeNext, a_nodePrev, a_nodeGlue, a_loopStack, a_boundaryNext, a_letters, a_offsets, a_lengths, a_viewName, a_viewOpposite), (f_triangleLimit', f_vertexLimit', f_slotCount', f_draftCount', f_viewLength', f_peelLength', f_peelVertices', f_peelBoundary', a_draft', a_slotList', a_slotLength', a_slotVertices', a_slotBoundary', a_viewList', a_peelList', a_number', a_taken', a_loop', a_rows', a_rowLength'), ⟨tl, V, sc, n, vn, d, e, h1, h2, h3, h4, h5, h6⟩ => h f_letterC f_letterR f_letterL f_letterS f_letterE f_triangleLimit f_vertexLimit f_slotCount f_draftCount f_bench f_bitsUsed f_nodeCount f_loopDepth f_boundaryCount f_numbered f_taken f_nextNumber f_viewCount a_draftName a_sideTable a_packed a_letterCount a_nodeName a_nodeNext a_nodePrev a_nodeGlue a_loopStack a_boundaryNext a_letters a_offsets a_lengths a_viewName a_viewOpposite f_triangleLimit' f_vertexLimit' f_slotCount' f_draftCount' f_viewLength' f_peelLength' f_peelVertices' f_peelBoundary' a_draft' a_slotList' a_slotLength' a_slotVertices' a_slotBoundary' a_viewList' a_peelList' a_number' a_taken' a_loop' a_rows' a_rowLength' tl V sc n vn d e h1 h2 h3 h4 h5 h6
theorem i_vc_draftSize {k : Nat} {u : SX} {v : SY} (I : i_Rel k u v) (hk : k + 4 ≤ 2051) : wpX_draftSize (fun r => wpY_draftSize (fun r' => r' = r ∧ i_Rel (k + 4) u v) v) u := by
  have I' : i_Rel (k + 4) u v := I
  revert I'
  refine re_el (Q := fun u v => i_Rel (k + 4) u v → wpX_draftSize (fun r => wpY_draftSize (fun r' => r' = r ∧ i_Rel (k + 4) u v) v) u) ?_ u v I
  intros
  unfold wpX_draftSize wpY_draftSize
  rename_i hB hX hY hD hS hV I'
  exact ⟨by rw [hX.2.2.2.1, hY.2.2.2.1], I'⟩
theorem i_vc_viewSize {k : Nat} {u : SX} {v : SY} (I : i_Rel k u v) (hk : k + 4 ≤ 2051) : wpX_viewSize (fun r => wpY_viewSize (fun r' => r' = r ∧ i_Rel (k + 4) u v) v) u := by
  have I' : i_Rel (k + 4) u v := I
  revert I'
  refine re_el (Q := fun u v => i_Rel (k + 4) u v → wpX_viewSize (fun r => wpY_viewSize (fun r' => r' = r ∧ i_Rel (k + 4) u v) v) u) ?_ u v I
  intros
  unfold wpX_viewSize wpY_viewSize
  rename_i hB hX hY hD hS hV I'
  exact ⟨by rw [hX.2.2.2.2, hY.2.2.2.2], I'⟩
end
section
/-! clearDraft, apex, erase, corner -/
theorem i_vc_clearDraft {k : Nat} {u : SX} {v : SY} (I : i_Rel k u v) (hk : k + 4 ≤ 2051) : wpX_clearDraft (fun u' => wpY_clearDraft (fun v' => i_Rel (k + 4) u' v') v) u := by
  have I' : i_Rel (k + 4) u v := I
  revert I'
  refine re_el (Q := fun u v => i_Rel (k + 4) u v → wpX_clearDraft (fun u' => wpY_clearDraft (fun v' => i_Rel (k + 4) u' v') v) u) ?_ u v I
  intro f_letterC f_letterR f_letterL f_letterS f_letterE f_triangleLimit f_vertexLimit f_slotCount f_draftCount f_bench f_bitsUsed f_nodeCount f_loopDepth f_boundaryCount f_numbered f_taken f_nextNumber f_viewCount a_draftName a_sideTable a_packed a_letterCount a_nodeName a_nodeNext a_nodePrev a_nodeGlue a_loopStack a_boundaryNext a_letters a_offsets a_lengths a_viewName a_viewOpposite g_triangleLimit g_vertexLimit g_slotCount g_draftCount g_viewLength g_peelLength g_peelVertices g_peelBoundary b_draft b_slotList b_slotLength b_slotVertices b_slotBoundary b_viewList b_peelList b_number b_taken b_loop b_rows b_rowLength tl V sc n vn d e hB hX hY hD hS hW I'
  obtain ⟨B1, B2, B3, B4, B5, B6, B7, B8⟩ := hB
  obtain ⟨X1, X2, X3, X4, X5⟩ := hX
  obtain ⟨Y1, Y2, Y3, Y4, Y5⟩ := hY
  obtain ⟨D1, D2, D3, D4, D5, D6⟩ := hD
  refine xs_clearDraft (d := d) (by omega) B4 D1 X4 D5 D4 (fun tab ht => ?_)
  unfold wpY_clearDraft
  dsimp only
  refine ⟨tl, V, sc, 0, vn, d, e, ⟨B1, B2, B3, B4, B5, B6, by omega, B8⟩, ⟨X1, X2, X3, rfl, X5⟩, ⟨Y1, Y2, Y3, rfl, Y5⟩, ⟨?_, ?_, ?_, ht, D5, D6⟩, hS, hW⟩
  · exact ⟨fun c hc => by omega, fun c hc => by omega, fun c c' hc => by omega⟩
  · exact ⟨fun c hc => by omega, fun c hc => by omega, fun c c' hc => by omega⟩
  · exact ⟨fun i hi => by omega, fun i hi => by omega⟩
theorem i_vc_apex {k : Nat} {u : SX} {v : SY} (I : i_Rel k u v) (hk : k + 4 ≤ 2051) (v1 : Int32) (v2 : Int32) : wpX_apex (fun r => wpY_apex (fun r' => r' = r ∧ i_Rel (k + 4) u v) v v1 v2) u v1 v2 := by
  have I' : i_Rel (k + 4) u v := I
  revert I'
  refine re_el (Q := fun u v => i_Rel (k + 4) u v → wpX_apex (fun r => wpY_apex (fun r' => r' = r ∧ i_Rel (k + 4) u v) v v1 v2) u v1 v2) ?_ u v I
  intro f_letterC f_letterR f_letterL f_letterS f_letterE f_triangleLimit f_vertexLimit f_slotCount f_draftCount f_bench f_bitsUsed f_nodeCount f_loopDepth f_boundaryCount f_numbered f_taken f_nextNumber f_viewCount a_draftName a_sideTable a_packed a_letterCount a_nodeName a_nodeNext a_nodePrev a_nodeGlue a_loopStack a_boundaryNext a_letters a_offsets a_lengths a_viewName a_viewOpposite g_triangleLimit g_vertexLimit g_slotCount g_draftCount g_viewLength g_peelLength g_peelVertices g_peelBoundary b_draft b_slotList b_slotLength b_slotVertices b_slotBoundary b_viewList b_peelList b_number b_taken b_loop b_rows b_rowLength tl V sc n vn d e hB hX hY hD hS hW I'
  obtain ⟨B1, B2, B3, B4, B5, B6, B7, B8⟩ := hB
  obtain ⟨X1, X2, X3, X4, X5⟩ := hX
  obtain ⟨Y1, Y2, Y3, Y4, Y5⟩ := hY
  obtain ⟨D1, D2, D3, D4, D5, D6⟩ := hD
  refine xs_apex (d := d) X2 B4 (by omega) D5 D4 v1 v2 (fun c hc e1 e2 => ?_) (fun hno => ?_)
  · have hT : md_T n d (d c) (d (mq_nx c)) (d (mq_nx (mq_nx c))) := ⟨c, hc, rfl, rfl, rfl⟩
    have hl := md_T_lt D1 hT
    refine ya_apex (e := e) Y4 (by omega) B4 D2 D6 v1 v2 (fun c' hc' f1 f2 => ⟨?_, I'⟩) (fun hno => ?_)
    · have hT' : md_T n e (e c') (e (mq_nx c')) (e (mq_nx (mq_nx c'))) := ⟨c', hc', rfl, rfl, rfl⟩
      have hl' := md_T_lt D2 hT'
      have k1 := mn_inj (by omega) (by omega) (e1.symm.trans f1)
      have k2 := mn_inj (by omega) (by omega) (e2.symm.trans f2)
      have h2 := (md_Sm_T D3).mp hT
      rw [k1, k2] at h2
      rw [md_T_fun D2 h2 hT']
    · obtain ⟨c', hc', g1, g2, _⟩ := (md_Sm_T D3).mp hT
      exact absurd ⟨e1.trans (by rw [g1]), e2.trans (by rw [g2])⟩ (hno c' hc')
  · refine ya_apex (e := e) Y4 (by omega) B4 D2 D6 v1 v2 (fun c' hc' f1 f2 => ?_) (fun _ => ⟨rfl, I'⟩)
    have hs : md_S n e (e c') (e (mq_nx c')) := ⟨c', hc', rfl, rfl⟩
    have hl := md_S_lt D2 hs
    exact absurd ((md_Sm_S D3).mpr hs) (hno _ _ hl.1 hl.2 f1 f2)
theorem i_vc_erase {k : Nat} {u : SX} {v : SY} (I : i_Rel k u v) (hk : k + 4 ≤ 2051) (v1 : Int32) : wpX_erase (fun r u' => wpY_erase (fun r' v' => r' = r ∧ i_Rel (k + 4) u' v') v v1) u v1 := by
  have I' : i_Rel (k + 4) u v := I
  revert I'
  refine re_el (Q := fun u v => i_Rel (k + 4) u v → wpX_erase (fun r u' => wpY_erase (fun r' v' => r' = r ∧ i_Rel (k + 4) u' v') v v1) u v1) ?_ u v I
  intro f_letterC f_letterR f_letterL f_letterS f_letterE f_triangleLimit f_vertexLimit f_slotCount f_draftCount f_bench f_bitsUsed f_nodeCount f_loopDepth f_boundaryCount f_numbered f_taken f_nextNumber f_viewCount a_draftName a_sideTable a_packed a_letterCount a_nodeName a_nodeNext a_nodePrev a_nodeGlue a_loopStack a_boundaryNext a_letters a_offsets a_lengths a_viewName a_viewOpposite g_triangleLimit g_vertexLimit g_slotCount g_draftCount g_viewLength g_peelLength g_peelVertices g_peelBoundary b_draft b_slotList b_slotLength b_slotVertices b_slotBoundary b_viewList b_peelList b_number b_taken b_loop b_rows b_rowLength tl V sc n vn d e hB hX hY hD hS hW I'
  obtain ⟨B1, B2, B3, B4, B5, B6, B7, B8⟩ := hB
  obtain ⟨X1, X2, X3, X4, X5⟩ := hX
  obtain ⟨Y1, Y2, Y3, Y4, Y5⟩ := hY
  obtain ⟨D1, D2, D3, D4, D5, D6⟩ := hD
  unfold wpX_erase wpY_erase
  dsimp only
  refine xa_isSlot v1 X3 B6 (fun hs => ?_) (fun hs => ?_)
  · refine br_f ar_n1 ?_
    obtain ⟨s, hs, rfl⟩ := hs
    rw [nI_clamp (by omega)]
    refine ⟨vp_in_nI (by omega) (by decide), ?_⟩
    have hYs : ∀ post : Int32 → Prop, post 1 → wpY_isSlot post (g_triangleLimit, g_vertexLimit, g_slotCount, g_draftCount, g_viewLength, g_peelLength, g_peelVertices, g_peelBoundary, b_draft, b_slotList, b_slotLength, b_slotVertices, b_slotBoundary, b_viewList, b_peelList, b_number, b_taken, b_loop, b_rows, b_rowLength) (nI s) := fun post hp => ya_isSlot _ Y3 B6 (fun _ => hp) (fun z => absurd ⟨s, hs, rfl⟩ z)
    rcases hS s hs with ⟨z1, z2⟩ | ⟨m, v, T, ws, h1, h2, h3, h4, h5, h6, h7⟩
    · refine br_t z1 (hYs _ (br_f ar_n1 ?_))
      exact ⟨vp_in_nI (by omega) (by decide), br_t z2 ⟨rfl, I'⟩⟩
    · refine br_f (by rw [h5]; exact nI_ne0 (by omega) (by omega)) ⟨vp_in_nI (by omega) (by decide), nm_e (hYs _ (br_f ar_n1 ?_))⟩
      refine ⟨vp_in_nI (by omega) (by decide), br_f (by rw [h6]; exact nI_ne0 (by omega) (by omega)) ⟨vp_in_nI (by omega) (by decide), nm_e ⟨rfl, ?_⟩⟩⟩
      refine ⟨tl, V, sc, n, vn, d, e, ⟨B1, B2, B3, B4, B5, B6, B7, B8⟩, ⟨X1, X2, X3, X4, X5⟩, ⟨Y1, Y2, Y3, Y4, Y5⟩, ⟨D1, D2, D3, D4, D5, D6⟩, fun s' hs' => ?_, hW⟩
      by_cases es : s' = s
      · subst es
        exact Or.inl ⟨pk_us, pk_us⟩
      · rw [pk_un es, pk_un es]
        exact hS s' hs'
  · exact br_t rfl (ya_isSlot _ Y3 B6 (fun z => absurd z hs) (fun _ => br_t rfl ⟨rfl, I'⟩))
section
variable {f_letterC f_letterR f_letterL f_letterS f_letterE f_triangleLimit f_vertexLimit f_slotCount f_draftCount f_bench f_bitsUsed f_nodeCount f_loopDepth f_boundaryCount f_numbered f_taken f_nextNumber f_viewCount : Int32} {a_draftName a_sideTable a_letterCount a_nodeName a_nodeNext a_nodePrev a_nodeGlue a_loopStack a_boundaryNext a_letters a_offsets a_lengths a_viewName a_viewOpposite : Nat → Int32} {a_packed : Nat → Int64}
theorem xa_isCorner {post : Int32 → Prop} {vn : Nat} (p0 p1 : Int32) (hv : f_viewCount = nI vn) (hv2 : vn ≤ 32) (h1 : ∀ t k, t < vn → k < 3 → p0 = nI t → p1 = nI k → post 1) (h0 : (¬ ∃ t k, t < vn ∧ k < 3 ∧ p0 = nI t ∧ p1 = nI k) → post 0) : wpX_isCorner post (f_letterC, f_letterR, f_letterL, f_letterS, f_letterE, f_triangleLimit, f_vertexLimit, f_slotCount, f_draftCount, f_bench, f_bitsUsed, f_nodeCount, f_loopDepth, f_boundaryCount, f_numbered, f_taken, f_nextNumber, f_viewCount, a_draftName, a_sideTable, a_packed, a_letterCount, a_nodeName, a_nodeNext, a_nodePrev, a_nodeGlue, a_loopStack, a_boundaryNext, a_letters, a_offsets, a_lengths, a_viewName, a_viewOpposite) p0 p1 := by
  unfold wpX_isCorner
  dsimp only
  subst hv
  refine br_c (fun a => h0 ?_) (fun a => ?_)
  · rintro ⟨t, k, ht, hk, rfl, rfl⟩
    exact nI_pos (by omega) a
  · obtain ⟨t, ht, rfl⟩ := nI_of a
    refine pk_le vn t (fun b => h0 ?_) (fun b => ?_)
    · rintro ⟨t', k, ht', hk, e, _⟩
      rw [nI_eq ht (by omega)] at e
      omega
    · refine br_c (fun c => h0 ?_) (fun c => ?_)
      · rintro ⟨t', k, ht', hk, _, rfl⟩
        exact nI_pos (by omega) c
      · obtain ⟨k, hk, rfl⟩ := nI_of c
        refine pk_lt 2 k (fun g => h0 ?_) (fun g => h1 t k b (by omega) rfl rfl)
        rintro ⟨t', k', ht', hk', _, e⟩
        rw [nI_eq hk (by omega)] at e
        omega
end
theorem ya_isCorner {A B : Prop} {vn : Nat} {g : Int32} (p0 p1 : Int32) (hv : g = nI vn) (hv2 : vn ≤ 32) (h1 : ∀ t k, t < vn → k < 3 → p0 = nI t → p1 = nI k → A) (h0 : (¬ ∃ t k, t < vn ∧ k < 3 ∧ p0 = nI t ∧ p1 = nI k) → B) :
    (p0 < 0 → B) ∧ (¬ p0 < 0 → (g ≤ p0 → B) ∧ (¬ g ≤ p0 → (p1 < 0 → B) ∧ (¬ p1 < 0 → (p1 ≤ 2 → A) ∧ (¬ p1 ≤ 2 → B)))) := by
  subst hv
  refine br_c (fun a => h0 ?_) (fun a => ?_)
  · rintro ⟨t, k, ht, hk, rfl, rfl⟩
    exact nI_pos (by omega) a
  · obtain ⟨t, ht, rfl⟩ := nI_of a
    refine pk_le vn t (fun b => h0 ?_) (fun b => ?_)
    · rintro ⟨t', k, ht', hk, e, _⟩
      rw [nI_eq ht (by omega)] at e
      omega
    · refine br_c (fun c => h0 ?_) (fun c => ?_)
      · rintro ⟨t', k, ht', hk, _, rfl⟩
        exact nI_pos (by omega) c
      · obtain ⟨k, hk, rfl⟩ := nI_of c
        refine pk_le k 2 (fun g => h1 t k b (by omega) rfl rfl) (fun g => h0 ?_)
        rintro ⟨t', k', ht', hk', _, e⟩
        rw [nI_eq hk (by omega)] at e
        omega
theorem i_vc_corner {k : Nat} {u : SX} {v : SY} (I : i_Rel k u v) (hk : k + 4 ≤ 2051) (v1 : Int32) (v2 : Int32) : wpX_corner (fun r => wpY_corner (fun r' => r' = r ∧ i_Rel (k + 4) u v) v v1 v2) u v1 v2 := by
  have I' : i_Rel (k + 4) u v := I
  revert I'
  refine re_el (Q := fun u v => i_Rel (k + 4) u v → wpX_corner (fun r => wpY_corner (fun r' => r' = r ∧ i_Rel (k + 4) u v) v v1 v2) u v1 v2) ?_ u v I
  intro f_letterC f_letterR f_letterL f_letterS f_letterE f_triangleLimit f_vertexLimit f_slotCount f_draftCount f_bench f_bitsUsed f_nodeCount f_loopDepth f_boundaryCount f_numbered f_taken f_nextNumber f_viewCount a_draftName a_sideTable a_packed a_letterCount a_nodeName a_nodeNext a_nodePrev a_nodeGlue a_loopStack a_boundaryNext a_letters a_offsets a_lengths a_viewName a_viewOpposite g_triangleLimit g_vertexLimit g_slotCount g_draftCount g_viewLength g_peelLength g_peelVertices g_peelBoundary b_draft b_slotList b_slotLength b_slotVertices b_slotBoundary b_viewList b_peelList b_number b_taken b_loop b_rows b_rowLength tl V sc n vn d e hB hX hY hD hS hW I'
  obtain ⟨B1, B2, B3, B4, B5, B6, B7, B8⟩ := hB
  obtain ⟨X1, X2, X3, X4, X5⟩ := hX
  obtain ⟨Y1, Y2, Y3, Y4, Y5⟩ := hY
  obtain ⟨D1, D2, D3, D4, D5, D6⟩ := hD
  unfold wpX_corner wpY_corner
  dsimp only
  obtain ⟨f, F1, F2, F3⟩ := hW
  refine xa_isCorner v1 v2 X5 (by omega) (fun t c ht hc e1 e2 => ?_) (fun hno => ?_)
  · subst e1
    subst e2
    refine br_f ar_n1 ?_
    rw [ar_3, nI_add, nI_clamp (by omega)]
    refine ⟨vp_in_nI (by omega) (by decide), ?_⟩
    refine ya_isCorner _ _ Y5 (by omega) (fun _ _ _ _ _ _ => ⟨vp_in_nI (by omega) (by decide), ?_, I'⟩) (fun hno => absurd ⟨t, c, ht, hc, rfl, rfl⟩ hno)
    rw [(F2 _ (by omega)).1, (F2 _ (by omega)).2]
  · refine br_t rfl ?_
    exact ya_isCorner _ _ Y5 (by omega) (fun t c ht hc e1 e2 => absurd ⟨t, c, ht, hc, e1, e2⟩ hno) (fun _ => ⟨rfl, I'⟩)
end
section
/-! addTriangle -/
def re_AO (V tl n : Nat) (S : Nat → Nat → Prop) (v1 v2 v3 r : Int32) : Prop :=
  (r = -1 ∧ ¬ (mn_nm V v1 ∧ mn_nm V v2 ∧ mn_nm V v3)) ∨
  ∃ p q t, p < V ∧ q < V ∧ t < V ∧ v1 = nI p ∧ v2 = nI q ∧ v3 = nI t ∧
    ((r = -2 ∧ (p = q ∨ q = t ∨ t = p)) ∨ (p ≠ q ∧ q ≠ t ∧ t ≠ p ∧ ((r = -3 ∧ tl ≤ n) ∨ (n < tl ∧ ((r = -4 ∧ (S p q ∨ S q t ∨ S t p)) ∨ (r = 0 ∧ ¬ S p q ∧ ¬ S q t ∧ ¬ S t p))))))
theorem re_AO_ex (V tl n : Nat) (S : Nat → Nat → Prop) (v1 v2 v3 : Int32) : ∃ r, re_AO V tl n S v1 v2 v3 r := by
  by_cases h : mn_nm V v1 ∧ mn_nm V v2 ∧ mn_nm V v3
  · obtain ⟨⟨p, hp, rfl⟩, ⟨q, hq, rfl⟩, ⟨t, ht, rfl⟩⟩ := h
    by_cases h2 : p = q ∨ q = t ∨ t = p
    · exact ⟨-2, Or.inr ⟨p, q, t, hp, hq, ht, rfl, rfl, rfl, Or.inl ⟨rfl, h2⟩⟩⟩
    · by_cases h3 : tl ≤ n
      · exact ⟨-3, Or.inr ⟨p, q, t, hp, hq, ht, rfl, rfl, rfl, Or.inr ⟨fun z => h2 (Or.inl z), fun z => h2 (Or.inr (Or.inl z)), fun z => h2 (Or.inr (Or.inr z)), Or.inl ⟨rfl, h3⟩⟩⟩⟩
      · by_cases h4 : S p q ∨ S q t ∨ S t p
        · exact ⟨-4, Or.inr ⟨p, q, t, hp, hq, ht, rfl, rfl, rfl, Or.inr ⟨fun z => h2 (Or.inl z), fun z => h2 (Or.inr (Or.inl z)), fun z => h2 (Or.inr (Or.inr z)), Or.inr ⟨by omega, Or.inl ⟨rfl, h4⟩⟩⟩⟩⟩
        · exact ⟨0, Or.inr ⟨p, q, t, hp, hq, ht, rfl, rfl, rfl, Or.inr ⟨fun z => h2 (Or.inl z), fun z => h2 (Or.inr (Or.inl z)), fun z => h2 (Or.inr (Or.inr z)), Or.inr ⟨by omega, Or.inr ⟨rfl, fun z => h4 (Or.inl z), fun z => h4 (Or.inr (Or.inl z)), fun z => h4 (Or.inr (Or.inr z))⟩⟩⟩⟩⟩
  · exact ⟨-1, Or.inl ⟨rfl, h⟩⟩
def re_new (d : Nat → Nat) (n p q t : Nat) : Nat → Nat := fun c => if c = 3 * n then p else if c = 3 * n + 1 then q else if c = 3 * n + 2 then t else d c
theorem re_new0 (d : Nat → Nat) (n p q t : Nat) : re_new d n p q t (3 * n) = p := if_pos rfl
theorem re_new1 (d : Nat → Nat) (n p q t : Nat) : re_new d n p q t (3 * n + 1) = q := by unfold re_new; rw [if_neg (by omega), if_pos rfl]
theorem re_new2 (d : Nat → Nat) (n p q t : Nat) : re_new d n p q t (3 * n + 2) = t := by unfold re_new; rw [if_neg (by omega), if_neg (by omega), if_pos rfl]
theorem re_newo (d : Nat → Nat) (n p q t : Nat) {c : Nat} (h : c / 3 ≠ n) : re_new d n p q t c = d c := by unfold re_new; rw [if_neg (by omega), if_neg (by omega), if_neg (by omega)]
section
variable {f_letterC f_letterR f_letterL f_letterS f_letterE f_triangleLimit f_vertexLimit f_slotCount f_draftCount f_bench f_bitsUsed f_nodeCount f_loopDepth f_boundaryCount f_numbered f_taken f_nextNumber f_viewCount : Int32} {a_draftName a_sideTable a_letterCount a_nodeName a_nodeNext a_nodePrev a_nodeGlue a_loopStack a_boundaryNext a_letters a_offsets a_lengths a_viewName a_viewOpposite : Nat → Int32} {a_packed : Nat → Int64}
theorem xm_add {post : Int32 → SX → Prop} {n V tl : Nat} {d : Nat → Nat} {v1 v2 v3 r : Int32} (h1 : f_triangleLimit = nI tl) (hV : f_vertexLimit = nI V) (hV2 : V ≤ 32) (hn : n ≤ 32) (htl : tl ≤ 32) (hc : f_draftCount = nI n) (hd : md_Ok n V d) (ht : xd_Tab n V d a_sideTable) (ha : ∀ c, c < 96 → a_draftName c = nI (d c))
    (ho : re_AO V tl n (md_S n d) v1 v2 v3 r) (h : r ≠ 0 → post r (f_letterC, f_letterR, f_letterL, f_letterS, f_letterE, f_triangleLimit, f_vertexLimit, f_slotCount, f_draftCount, f_bench, f_bitsUsed, f_nodeCount, f_loopDepth, f_boundaryCount, f_numbered, f_taken, f_nextNumber, f_viewCount, a_draftName, a_sideTable, a_packed, a_letterCount, a_nodeName, a_nodeNext, a_nodePrev, a_nodeGlue, a_loopStack, a_boundaryNext, a_letters, a_offsets, a_lengths, a_viewName, a_viewOpposite))
    (h0 : ∀ p q t, v1 = nI p → v2 = nI q → v3 = nI t → p < V → q < V → t < V → p ≠ q → q ≠ t → t ≠ p → n < tl → ¬ md_S n d p q → ¬ md_S n d q t → ¬ md_S n d t p → ∀ aD : Nat → Int32, (∀ c, c < 96 → aD c = nI (re_new d n p q t c)) → r = 0 →
      post 0 (f_letterC, f_letterR, f_letterL, f_letterS, f_letterE, f_triangleLimit, f_vertexLimit, f_slotCount, nI (n + 1), f_bench, f_bitsUsed, f_nodeCount, f_loopDepth, f_boundaryCount, f_numbered, f_taken, f_nextNumber, f_viewCount, aD, xs_tab a_sideTable (re_new d n p q t) n (fun c => nI (c + 1)), a_packed, a_letterCount, a_nodeName, a_nodeNext, a_nodePrev, a_nodeGlue, a_loopStack, a_boundaryNext, a_letters, a_offsets, a_lengths, a_viewName, a_viewOpposite)) :
    wpX_addTriangle post (f_letterC, f_letterR, f_letterL, f_letterS, f_letterE, f_triangleLimit, f_vertexLimit, f_slotCount, f_draftCount, f_bench, f_bitsUsed, f_nodeCount, f_loopDepth, f_boundaryCount, f_numbered, f_taken, f_nextNumber, f_viewCount, a_draftName, a_sideTable, a_packed, a_letterCount, a_nodeName, a_nodeNext, a_nodePrev, a_nodeGlue, a_loopStack, a_boundaryNext, a_letters, a_offsets, a_lengths, a_viewName, a_viewOpposite) v1 v2 v3 := by
  unfold wpX_addTriangle
  dsimp only
  rcases ho with ⟨rfl, hno⟩ | ⟨p, q, t, hp, hq, hh, rfl, rfl, rfl, ho⟩
  · have bad := h (by decide)
    refine xa_isName v1 hV hV2 (fun a => br_f ar_n1 ?_) (fun a => br_t rfl bad)
    refine xa_isName v2 hV hV2 (fun b => br_f ar_n1 ?_) (fun b => br_t rfl bad)
    refine xa_isName v3 hV hV2 (fun c => absurd ⟨a, b, c⟩ hno) (fun c => br_t rfl bad)
  · refine xa_isName _ hV hV2 (fun _ => br_f ar_n1 ?_) (fun a => absurd ⟨p, hp, rfl⟩ a)
    refine xa_isName _ hV hV2 (fun _ => br_f ar_n1 ?_) (fun a => absurd ⟨q, hq, rfl⟩ a)
    refine xa_isName _ hV hV2 (fun _ => br_f ar_n1 ?_) (fun a => absurd ⟨t, hh, rfl⟩ a)
    rcases ho with ⟨rfl, ho⟩ | ⟨n1, n2, n3, ho⟩
    · have bad := h (by decide)
      exact pk_eq p q (fun _ => bad) (fun e1 => pk_eq q t (fun _ => bad) (fun e2 => pk_eq t p (fun _ => bad) (fun e3 => absurd ho (by omega))))
    · refine pk_eq p q (fun z => absurd z n1) (fun _ => pk_eq q t (fun z => absurd z n2) (fun _ => pk_eq t p (fun z => absurd z n3) (fun _ => ?_)))
      subst h1
      subst hc
      rcases ho with ⟨rfl, ho⟩ | ⟨hlt, ho⟩
      · exact pk_lt n tl (fun z => absurd z (by omega)) (fun _ => h (by decide))
      · refine pk_lt n tl (fun _ => ?_) (fun z => absurd z (by omega))
        rcases ho with ⟨rfl, ho⟩ | ⟨rfl, s1, s2, s3⟩
        · have bad := h (by decide)
          refine xa_side_at (d := d) hV hV2 hn hd ht (by omega) (by omega) (fun c hc _ _ => br_t (nI_pos' (by omega)) bad) (fun k1 => br_f ar_ng ?_)
          refine xa_side_at (d := d) hV hV2 hn hd ht (by omega) (by omega) (fun c hc _ _ => br_t (nI_pos' (by omega)) bad) (fun k2 => br_f ar_ng ?_)
          refine xa_side_at (d := d) hV hV2 hn hd ht (by omega) (by omega) (fun c hc _ _ => br_f (nI_pos (by omega)) bad) (fun k3 => ?_)
          rcases ho with z | z | z
          · exact absurd z k1
          · exact absurd z k2
          · exact absurd z k3
        · refine xa_side_at (d := d) hV hV2 hn hd ht (by omega) (by omega) (fun c hc a b => absurd ⟨c, hc, a, b⟩ s1) (fun k1 => br_f ar_ng ?_)
          refine xa_side_at (d := d) hV hV2 hn hd ht (by omega) (by omega) (fun c hc a b => absurd ⟨c, hc, a, b⟩ s2) (fun k2 => br_f ar_ng ?_)
          refine xa_side_at (d := d) hV hV2 hn hd ht (by omega) (by omega) (fun c hc a b => absurd ⟨c, hc, a, b⟩ s3) (fun k3 => br_t ar_lg ?_)
          refine xs_place (d := d) (d' := re_new d n p q t) (by omega) rfl ha (by omega) (by omega) (by omega) (re_new0 _ _ _ _ _) (re_new1 _ _ _ _ _) (re_new2 _ _ _ _ _) (fun c hc => re_newo _ _ _ _ _ hc) (fun aD hD => ?_)
          exact h0 p q t rfl rfl rfl hp hq hh n1 n2 n3 hlt s1 s2 s3 aD hD rfl
end
section
variable {f_triangleLimit f_vertexLimit f_slotCount f_draftCount f_viewLength f_peelLength f_peelVertices f_peelBoundary : Int32} {a_draft a_slotList a_slotLength a_slotVertices a_slotBoundary a_viewList a_peelList a_number a_taken a_loop a_rows a_rowLength : Nat → Int32}
theorem ym_add {post : Int32 → SY → Prop} {n V tl : Nat} {e : Nat → Nat} {v1 v2 v3 r : Int32} (h1 : f_triangleLimit = nI tl) (hV : f_vertexLimit = nI V) (hV2 : V ≤ 32) (hn : n ≤ 32) (htl : tl ≤ 32) (hc : f_draftCount = nI n) (he : md_Ok n V e) (ha : ∀ c, c < 96 → a_draft c = nI (e c))
    (ho : re_AO V tl n (md_S n e) v1 v2 v3 r) (h : r ≠ 0 → post r (f_triangleLimit, f_vertexLimit, f_slotCount, f_draftCount, f_viewLength, f_peelLength, f_peelVertices, f_peelBoundary, a_draft, a_slotList, a_slotLength, a_slotVertices, a_slotBoundary, a_viewList, a_peelList, a_number, a_taken, a_loop, a_rows, a_rowLength))
    (h0 : ∀ p q t, v1 = nI p → v2 = nI q → v3 = nI t → p < V → q < V → t < V → ∀ bD : Nat → Int32, (∀ c, c < 96 → bD c = nI (re_new e n p q t c)) → r = 0 → post 0 (f_triangleLimit, f_vertexLimit, f_slotCount, nI (n + 1), f_viewLength, f_peelLength, f_peelVertices, f_peelBoundary, bD, a_slotList, a_slotLength, a_slotVertices, a_slotBoundary, a_viewList, a_peelList, a_number, a_taken, a_loop, a_rows, a_rowLength)) :
    wpY_addTriangle post (f_triangleLimit, f_vertexLimit, f_slotCount, f_draftCount, f_viewLength, f_peelLength, f_peelVertices, f_peelBoundary, a_draft, a_slotList, a_slotLength, a_slotVertices, a_slotBoundary, a_viewList, a_peelList, a_number, a_taken, a_loop, a_rows, a_rowLength) v1 v2 v3 := by
  unfold wpY_addTriangle
  dsimp only
  rcases ho with ⟨rfl, hno⟩ | ⟨p, q, t, hp, hq, hh, rfl, rfl, rfl, ho⟩
  · have bad := h (by decide)
    refine ya_isName v1 hV hV2 (fun a => br_f ar_n1 ?_) (fun a => br_t rfl bad)
    refine ya_isName v2 hV hV2 (fun b => br_f ar_n1 ?_) (fun b => br_t rfl bad)
    refine ya_isName v3 hV hV2 (fun c => absurd ⟨a, b, c⟩ hno) (fun c => br_t rfl bad)
  · refine ya_isName _ hV hV2 (fun _ => br_f ar_n1 ?_) (fun a => absurd ⟨p, hp, rfl⟩ a)
    refine ya_isName _ hV hV2 (fun _ => br_f ar_n1 ?_) (fun a => absurd ⟨q, hq, rfl⟩ a)
    refine ya_isName _ hV hV2 (fun _ => br_f ar_n1 ?_) (fun a => absurd ⟨t, hh, rfl⟩ a)
    rcases ho with ⟨rfl, ho⟩ | ⟨n1, n2, n3, ho⟩
    · have bad := h (by decide)
      exact pk_eq p q (fun _ => bad) (fun e1 => pk_eq q t (fun _ => bad) (fun e2 => pk_eq p t (fun _ => bad) (fun e3 => absurd ho (by omega))))
    · refine pk_eq p q (fun z => absurd z n1) (fun _ => pk_eq q t (fun z => absurd z n2) (fun _ => pk_eq p t (fun z => absurd z.symm n3) (fun _ => ?_)))
      subst h1
      rcases ho with ⟨rfl, ho⟩ | ⟨hlt, ho⟩
      · rw [hc]
        refine pk_lt n tl (fun z => absurd z (by omega)) (fun _ => ?_)
        have := h (by decide)
        rw [hc] at this
        exact this
      · refine br_t (by rw [hc]; exact nI_lt hlt (by omega)) ?_
        rcases ho with ⟨rfl, ho⟩ | ⟨rfl, s1, s2, s3⟩
        · have bad := h (by decide)
          refine ya_owner_at (e := e) hc hn hV2 he ha (by omega) (by omega) (fun c hc _ _ => br_t (nI_pos' (by omega)) bad) (fun k1 => br_f ar_ng ?_)
          refine ya_owner_at (e := e) hc hn hV2 he ha (by omega) (by omega) (fun c hc _ _ => br_t (nI_pos' (by omega)) bad) (fun k2 => br_f ar_ng ?_)
          refine ya_owner_at (e := e) hc hn hV2 he ha (by omega) (by omega) (fun c hc _ _ => br_f (nI_pos (by omega)) bad) (fun k3 => ?_)
          rcases ho with z | z | z
          · exact absurd z k1
          · exact absurd z k2
          · exact absurd z k3
        · refine ya_owner_at (e := e) hc hn hV2 he ha (by omega) (by omega) (fun c hc a b => absurd ⟨c, hc, a, b⟩ s1) (fun k1 => br_f ar_ng ?_)
          refine ya_owner_at (e := e) hc hn hV2 he ha (by omega) (by omega) (fun c hc a b => absurd ⟨c, hc, a, b⟩ s2) (fun k2 => br_f ar_ng ?_)
          refine ya_owner_at (e := e) hc hn hV2 he ha (by omega) (by omega) (fun c hc a b => absurd ⟨c, hc, a, b⟩ s3) (fun k3 => br_t ar_lg ?_)
          subst hc
          rw [ar_3, nI_1 (3 * n), ar_a2, nI_clamp (by omega), nI_clamp (by omega), nI_clamp (by omega)]
          refine ⟨vp_in_nI (by omega) (by decide), nm_e ⟨vp_in_nI (by omega) (by decide), nm_e ⟨vp_in_nI (by omega) (by decide), nm_e (nm_r (nI_1 n) ?_)⟩⟩⟩
          refine h0 p q t rfl rfl rfl hp hq hh _ (fun c hc => ?_) rfl
          by_cases x2 : c = 3 * n + 2
          · rw [x2, pk_us, re_new2]
          · by_cases x1 : c = 3 * n + 1
            · rw [x1, pk_un (by omega), pk_us, re_new1]
            · by_cases x0 : c = 3 * n
              · rw [x0, pk_un (by omega), pk_un (by omega), pk_us, re_new0]
              · rw [pk_un x2, pk_un x1, pk_un x0, re_newo _ _ _ _ _ (by omega)]
                exact ha c hc
end
theorem re_AO_S {V tl n : Nat} {S S' : Nat → Nat → Prop} {v1 v2 v3 r : Int32} (h : re_AO V tl n S v1 v2 v3 r) (hs : ∀ p q, S p q ↔ S' p q) : re_AO V tl n S' v1 v2 v3 r := by
  have : S = S' := by
    funext p q
    exact propext (hs p q)
  rw [← this]
  exact h
theorem i_vc_addTriangle {k : Nat} {u : SX} {v : SY} (I : i_Rel k u v) (hk : k + 4 ≤ 2051) (v1 : Int32) (v2 : Int32) (v3 : Int32) : wpX_addTriangle (fun r u' => wpY_addTriangle (fun r' v' => r' = r ∧ i_Rel (k + 4) u' v') v v1 v2 v3) u v1 v2 v3 := by
  have I' : i_Rel (k + 4) u v := I
  revert I'
  refine re_el (Q := fun u v => i_Rel (k + 4) u v → wpX_addTriangle (fun r u' => wpY_addTriangle (fun r' v' => r' = r ∧ i_Rel (k + 4) u' v') v v1 v2 v3) u v1 v2 v3) ?_ u v I
  intro f_letterC f_letterR f_letterL f_letterS f_letterE f_triangleLimit f_vertexLimit f_slotCount f_draftCount f_bench f_bitsUsed f_nodeCount f_loopDepth f_boundaryCount f_numbered f_taken f_nextNumber f_viewCount a_draftName a_sideTable a_packed a_letterCount a_nodeName a_nodeNext a_nodePrev a_nodeGlue a_loopStack a_boundaryNext a_letters a_offsets a_lengths a_viewName a_viewOpposite g_triangleLimit g_vertexLimit g_slotCount g_draftCount g_viewLength g_peelLength g_peelVertices g_peelBoundary b_draft b_slotList b_slotLength b_slotVertices b_slotBoundary b_viewList b_peelList b_number b_taken b_loop b_rows b_rowLength tl V sc n vn d e hB hX hY hD hS hW I'
  obtain ⟨B1, B2, B3, B4, B5, B6, B7, B8⟩ := hB
  obtain ⟨X1, X2, X3, X4, X5⟩ := hX
  obtain ⟨Y1, Y2, Y3, Y4, Y5⟩ := hY
  obtain ⟨D1, D2, D3, D4, D5, D6⟩ := hD
  obtain ⟨r, ho⟩ := re_AO_ex V tl n (md_S n d) v1 v2 v3
  have ho' : re_AO V tl n (md_S n e) v1 v2 v3 r := re_AO_S ho (fun p q => md_Sm_S D3)
  refine xm_add (d := d) X1 X2 B4 (by omega) B2 X4 D1 D4 D5 ho (fun hr => ?_) (fun p q t f1 f2 f3 hp hq hh n1 n2 n3 hlt s1 s2 s3 aD hA hr => ?_)
  · exact ym_add (e := e) Y1 Y2 B4 (by omega) B2 Y4 D2 D6 ho' (fun _ => ⟨rfl, I'⟩) (fun p q t _ _ _ _ _ _ bD _ z => absurd z hr)
  · refine ym_add (e := e) Y1 Y2 B4 (by omega) B2 Y4 D2 D6 ho' (fun z => absurd hr z) (fun p' q' t' g1 g2 g3 hp' hq' hh' bD hB' _ => ⟨rfl, ?_⟩)
    have x1 := mn_inj (by omega) (by omega) (f1.symm.trans g1)
    have x2 := mn_inj (by omega) (by omega) (f2.symm.trans g2)
    have x3 := mn_inj (by omega) (by omega) (f3.symm.trans g3)
    subst x1
    subst x2
    subst x3
    have eD : ∀ c, c < 3 * n → re_new d n p q t c = d c := fun c hc => re_newo _ _ _ _ _ (by omega)
    have eE : ∀ c, c < 3 * n → re_new e n p q t c = e c := fun c hc => re_newo _ _ _ _ _ (by omega)
    refine ⟨tl, V, sc, n + 1, vn, re_new d n p q t, re_new e n p q t, ⟨B1, B2, B3, B4, B5, B6, by omega, B8⟩, ⟨X1, X2, X3, rfl, X5⟩, ⟨Y1, Y2, Y3, rfl, Y5⟩, ⟨?_, ?_, ?_, ?_, hA, hB'⟩, hS, hW⟩
    · refine md_add D1 eD ?_ ?_ ?_ ?_ ?_ ?_ ?_ ?_ ?_ <;> simp only [re_new0, re_new1, re_new2] <;> assumption
    · have s1' := fun z => s1 ((md_Sm_S D3).mpr z)
      have s2' := fun z => s2 ((md_Sm_S D3).mpr z)
      have s3' := fun z => s3 ((md_Sm_S D3).mpr z)
      refine md_add D2 eE ?_ ?_ ?_ ?_ ?_ ?_ ?_ ?_ ?_ <;> simp only [re_new0, re_new1, re_new2] <;> assumption
    · refine md_Sm_add D3 eD eE (fun j hj => ?_)
      rcases (by omega : j = 0 ∨ j = 1 ∨ j = 2) with rfl | rfl | rfl
      · rw [Nat.add_zero, re_new0, re_new0]
      · rw [re_new1, re_new1]
      · rw [re_new2, re_new2]
    · refine xd_TP_iff.mp (xd_put (A := fun f => f < n) (d := d) B4 ?_ ?_ ?_ ?_ ?_ ?_ (xd_TP_iff.mpr D4))
      · intro c hc
        rcases (by omega : c = 3 * n ∨ c = 3 * n + 1 ∨ c = 3 * n + 2) with rfl | rfl | rfl
        · rw [re_new0]; exact hp
        · rw [re_new1]; exact hq
        · rw [re_new2]; exact hh
      · omega
      · intro f hf; omega
      · omega
      · intro c _ hc; exact re_newo _ _ _ _ _ hc
      · intro f hf; exact Or.inl (by omega)
end
section
/-! removeTriangle -/
def re_mv (d : Nat → Nat) (n i : Nat) : Nat → Nat := fun c => if c / 3 = i then d (3 * n + c % 3) else d c
theorem re_mv_at (d : Nat → Nat) (n i k : Nat) (hk : k < 3) : re_mv d n i (3 * i + k) = d (3 * n + k) := by
  unfold re_mv
  rw [if_pos (by omega), show (3 * i + k) % 3 = k by omega]
theorem re_mv_o (d : Nat → Nat) (n i : Nat) {c : Nat} (h : c / 3 ≠ i) : re_mv d n i c = d c := if_neg h
def re_sh (e : Nat → Nat) (n f : Nat) : Nat → Nat := fun c => if 3 * f ≤ c ∧ c < 3 * n then e (c + 3) else e c
section
variable {f_letterC f_letterR f_letterL f_letterS f_letterE f_triangleLimit f_vertexLimit f_slotCount f_draftCount f_bench f_bitsUsed f_nodeCount f_loopDepth f_boundaryCount f_numbered f_taken f_nextNumber f_viewCount : Int32} {a_draftName a_sideTable a_letterCount a_nodeName a_nodeNext a_nodePrev a_nodeGlue a_loopStack a_boundaryNext a_letters a_offsets a_lengths a_viewName a_viewOpposite : Nat → Int32} {a_packed : Nat → Int64}
theorem xm_rm {post : Int32 → SX → Prop} {n V : Nat} {d : Nat → Nat} {v1 v2 : Int32} (hV : f_vertexLimit = nI V) (hV2 : V ≤ 32) (hn : n + 1 ≤ 32) (hc : f_draftCount = nI (n + 1)) (hd : md_Ok (n + 1) V d) (ht : xd_Tab (n + 1) V d a_sideTable) (ha : ∀ c, c < 96 → a_draftName c = nI (d c))
    (h0 : (∀ p q, p < V → q < V → v1 = nI p → v2 = nI q → ¬ md_S (n + 1) d p q) → post (-10) (f_letterC, f_letterR, f_letterL, f_letterS, f_letterE, f_triangleLimit, f_vertexLimit, f_slotCount, f_draftCount, f_bench, f_bitsUsed, f_nodeCount, f_loopDepth, f_boundaryCount, f_numbered, f_taken, f_nextNumber, f_viewCount, a_draftName, a_sideTable, a_packed, a_letterCount, a_nodeName, a_nodeNext, a_nodePrev, a_nodeGlue, a_loopStack, a_boundaryNext, a_letters, a_offsets, a_lengths, a_viewName, a_viewOpposite))
    (h1 : ∀ c, c < 3 * (n + 1) → v1 = nI (d c) → v2 = nI (d (mq_nx c)) → ∀ (d' : Nat → Nat) (aD tab : Nat → Int32), (∀ j k, j < n → k < 3 → d' (3 * j + k) = d (3 * (if j = c / 3 then n else j) + k)) → xd_Tab n V d' tab → (∀ c, c < 96 → aD c = nI (d' c)) →
      post 0 (f_letterC, f_letterR, f_letterL, f_letterS, f_letterE, f_triangleLimit, f_vertexLimit, f_slotCount, nI n, f_bench, f_bitsUsed, f_nodeCount, f_loopDepth, f_boundaryCount, f_numbered, f_taken, f_nextNumber, f_viewCount, aD, tab, a_packed, a_letterCount, a_nodeName, a_nodeNext, a_nodePrev, a_nodeGlue, a_loopStack, a_boundaryNext, a_letters, a_offsets, a_lengths, a_viewName, a_viewOpposite)) : wpX_removeTriangle post (f_letterC, f_letterR, f_letterL, f_letterS, f_letterE, f_triangleLimit, f_vertexLimit, f_slotCount, f_draftCount, f_bench, f_bitsUsed, f_nodeCount, f_loopDepth, f_boundaryCount, f_numbered, f_taken, f_nextNumber, f_viewCount, a_draftName, a_sideTable, a_packed, a_letterCount, a_nodeName, a_nodeNext, a_nodePrev, a_nodeGlue, a_loopStack, a_boundaryNext, a_letters, a_offsets, a_lengths, a_viewName, a_viewOpposite) v1 v2 := by
  subst hc
  unfold wpX_removeTriangle
  dsimp only
  refine xa_side (n := n + 1) (d := d) hV hV2 hn ht v1 v2 (fun c hc e1 e2 => ?_) (fun h => br_f ar_ng (h0 h))
  refine br_t (nI_pos' (by omega)) ⟨ar_n3, nm_r (ar_d3 (by omega)) ?_⟩
  have hi : c / 3 < n + 1 := by omega
  refine xs_clr (d := d) (by omega) ha (fun c' hc' => by have := hd.1 c' (by omega); omega) ?_
  dsimp only
  refine nm_r (nI_pred n) ?_
  have hclr := xd_clr (A := fun f => f < n + 1) (A' := fun f => f < n + 1 ∧ f ≠ c / 3) hV2 hd (fun f hf => hf) hi (fun f => Iff.rfl) (xd_TP_iff.mpr ht)
  refine pk_eq (c / 3) n (fun ei => ?_) (fun ei => ?_)
  · refine h1 c hc e1 e2 d _ _ (fun j k hj hk => ?_) (xd_TP_iff.mp ?_) ha
    · rw [if_neg (by omega)]
    · intro p q hp hq
      rcases hclr p q hp hq with ⟨c', k1, k2⟩ | ⟨k1, k2⟩
      · exact Or.inl ⟨c', by omega, k2⟩
      · exact Or.inr ⟨fun c' hc' => k1 c' ⟨by omega, by omega⟩, k2⟩
  · refine xs_rm_loop (n := n) (d := d) (by omega) (by omega) rfl ha (re_mv d n (c / 3)) (fun c' hc' => ?_) (fun k hk => re_mv_at d n (c / 3) k hk) (fun c' hc' => re_mv_o d n (c / 3) hc') (fun aD hA => ?_)
    · have : re_mv d n (c / 3) c' = d (3 * n + c' % 3) := if_pos hc'
      rw [this]
      have := hd.1 (3 * n + c' % 3) (by omega)
      omega
    · refine h1 c hc e1 e2 (re_mv d n (c / 3)) _ _ (fun j k hj hk => ?_) (xd_TP_iff.mp ?_) hA
      · by_cases ej : j = c / 3
        · rw [if_pos ej, ej, re_mv_at _ _ _ _ hk]
        · rw [if_neg ej, re_mv_o _ _ _ (by omega)]
      · refine xd_put (A := fun f => f < n + 1 ∧ f ≠ c / 3) (d := d) hV2 ?_ ?_ ?_ ?_ ?_ ?_ hclr
        · intro c' hc'
          have : re_mv d n (c / 3) c' = d (3 * n + c' % 3) := if_pos hc'
          rw [this]
          exact hd.1 (3 * n + c' % 3) (by omega)
        · omega
        · intro f hf; omega
        · omega
        · intro c' _ hc'; exact re_mv_o _ _ _ hc'
        · intro f hf
          by_cases ef : f = n
          · refine Or.inr (fun c' hc' => ⟨3 * (c / 3) + c' % 3, by omega, ?_, ?_⟩)
            · rw [re_mv_at _ _ _ _ (by omega)]
              exact congrArg d (by omega)
            · rw [mq_at _ _ (by omega), re_mv_at _ _ _ _ (by omega), md_nxk c']
              exact congrArg d (by omega)
          · exact Or.inl (by omega)
end
section
variable {f_triangleLimit f_vertexLimit f_slotCount f_draftCount f_viewLength f_peelLength f_peelVertices f_peelBoundary : Int32} {a_draft a_slotList a_slotLength a_slotVertices a_slotBoundary a_viewList a_peelList a_number a_taken a_loop a_rows a_rowLength : Nat → Int32}
theorem ym_rm_loop {post : Int32 → SY → Prop} {n f : Nat} {e : Nat → Nat} (hn : n + 1 ≤ 32) (hf : f ≤ n) (hc : f_draftCount = nI n)
    (h : ∀ bD : Nat → Int32, (∀ c, c < 96 → bD c = nI (re_sh e n f c)) → post 0 (f_triangleLimit, f_vertexLimit, f_slotCount, f_draftCount, f_viewLength, f_peelLength, f_peelVertices, f_peelBoundary, bD, a_slotList, a_slotLength, a_slotVertices, a_slotBoundary, a_viewList, a_peelList, a_number, a_taken, a_loop, a_rows, a_rowLength)) :
    ∀ m i, 3 * n - i < m → 3 * f ≤ i → i ≤ 3 * n → ∀ bD : Nat → Int32, (∀ c, c < 96 → bD c = nI (if 3 * f ≤ c ∧ c < i then e (c + 3) else e c)) → wY_removeTriangle_29 post f_triangleLimit f_vertexLimit f_slotCount f_draftCount f_viewLength f_peelLength f_peelVertices f_peelBoundary m (nI i) bD a_slotList a_slotLength a_slotVertices a_slotBoundary a_viewList a_peelList a_number a_taken a_loop a_rows a_rowLength := by
  subst hc
  intro m
  induction m with
  | zero => intro i hm; omega
  | succ m ih =>
    intro i hm hi1 hi2 bD hb
    rw [wY_removeTriangle_29]
    dsimp only
    rw [ar_3]
    refine pk_le (3 * n) i (fun hle => ?_) (fun hlt => ?_)
    · have ei : i = 3 * n := by omega
      subst ei
      exact h bD hb
    · rw [ar_a3, nI_clamp (by omega), nI_clamp (by omega), hb (i + 3) (by omega), if_neg (by omega)]
      refine ⟨vp_in_nI (by omega) (by decide), vp_in_nI (by omega) (by decide), nm_e (nm_r (nI_1 i) (ih (i + 1) (by omega) (by omega) (by omega) _ (fun c hc => ?_)))⟩
      by_cases ec : c = i
      · rw [ec, pk_us, if_pos ⟨hi1, by omega⟩]
      · rw [pk_un ec, hb c hc]
        by_cases h2 : 3 * f ≤ c ∧ c < i
        · rw [if_pos h2, if_pos ⟨h2.1, by omega⟩]
        · rw [if_neg h2, if_neg (by omega)]
theorem ym_rm {post : Int32 → SY → Prop} {n : Nat} {e : Nat → Nat} {v1 v2 : Int32} (hn : n + 1 ≤ 32) (hc : f_draftCount = nI (n + 1)) (ha : ∀ c, c < 96 → a_draft c = nI (e c))
    (h0 : (∀ c, c < 3 * (n + 1) → ¬ (v1 = nI (e c) ∧ v2 = nI (e (mq_nx c)))) → post (-10) (f_triangleLimit, f_vertexLimit, f_slotCount, f_draftCount, f_viewLength, f_peelLength, f_peelVertices, f_peelBoundary, a_draft, a_slotList, a_slotLength, a_slotVertices, a_slotBoundary, a_viewList, a_peelList, a_number, a_taken, a_loop, a_rows, a_rowLength))
    (h1 : ∀ c, c < 3 * (n + 1) → v1 = nI (e c) → v2 = nI (e (mq_nx c)) → ∀ bD : Nat → Int32, (∀ c', c' < 96 → bD c' = nI (re_sh e n (c / 3) c')) → post 0 (f_triangleLimit, f_vertexLimit, f_slotCount, nI n, f_viewLength, f_peelLength, f_peelVertices, f_peelBoundary, bD, a_slotList, a_slotLength, a_slotVertices, a_slotBoundary, a_viewList, a_peelList, a_number, a_taken, a_loop, a_rows, a_rowLength)) : wpY_removeTriangle post (f_triangleLimit, f_vertexLimit, f_slotCount, f_draftCount, f_viewLength, f_peelLength, f_peelVertices, f_peelBoundary, a_draft, a_slotList, a_slotLength, a_slotVertices, a_slotBoundary, a_viewList, a_peelList, a_number, a_taken, a_loop, a_rows, a_rowLength) v1 v2 := by
  unfold wpY_removeTriangle
  dsimp only
  refine ya_owner (n := n + 1) (e := e) hc hn ha v1 v2 (fun c hc' e1 e2 => ?_) (fun h => br_f ar_ng (h0 h))
  subst hc
  refine br_t (nI_pos' (by omega)) (nm_r (nI_pred n) (nm_r (ar_3 _) ⟨3 * n + 1, ?_⟩))
  refine ym_rm_loop (f := c / 3) (e := e) hn (by omega) rfl (fun bD hb => h1 c hc' e1 e2 bD hb) (3 * n + 1) (3 * (c / 3)) (by omega) (by omega) (by omega) _ (fun c' hc'' => ?_)
  rw [if_neg (by omega)]
  exact ha c' hc''
theorem ym_rm0 {post : Int32 → SY → Prop} {v1 v2 : Int32} (hc : f_draftCount = nI 0) (ha : ∀ c, c < 96 → ∃ x, a_draft c = nI x) (h0 : post (-10) (f_triangleLimit, f_vertexLimit, f_slotCount, f_draftCount, f_viewLength, f_peelLength, f_peelVertices, f_peelBoundary, a_draft, a_slotList, a_slotLength, a_slotVertices, a_slotBoundary, a_viewList, a_peelList, a_number, a_taken, a_loop, a_rows, a_rowLength)) : wpY_removeTriangle post (f_triangleLimit, f_vertexLimit, f_slotCount, f_draftCount, f_viewLength, f_peelLength, f_peelVertices, f_peelBoundary, a_draft, a_slotList, a_slotLength, a_slotVertices, a_slotBoundary, a_viewList, a_peelList, a_number, a_taken, a_loop, a_rows, a_rowLength) v1 v2 := by
  unfold wpY_removeTriangle
  dsimp only
  have hc2 := Classical.axiomOfChoice (fun c => (by
    by_cases h : c < 96
    · obtain ⟨x, hx⟩ := ha c h
      exact ⟨x, fun _ => hx⟩
    · exact ⟨0, fun z => absurd z h⟩ : ∃ x, c < 96 → a_draft c = nI x))
  obtain ⟨e, he⟩ := hc2
  refine ya_owner (n := 0) (e := e) hc (by decide) he v1 v2 (fun c hc' e1 e2 => absurd hc' (by omega)) (fun h => br_f ar_ng h0)
end
theorem i_vc_removeTriangle {k : Nat} {u : SX} {v : SY} (I : i_Rel k u v) (hk : k + 4 ≤ 2051) (v1 : Int32) (v2 : Int32) : wpX_removeTriangle (fun r u' => wpY_removeTriangle (fun r' v' => r' = r ∧ i_Rel (k + 4) u' v') v v1 v2) u v1 v2 := by
  have I' : i_Rel (k + 4) u v := I
  revert I'
  refine re_el (Q := fun u v => i_Rel (k + 4) u v → wpX_removeTriangle (fun r u' => wpY_removeTriangle (fun r' v' => r' = r ∧ i_Rel (k + 4) u' v') v v1 v2) u v1 v2) ?_ u v I
  intro f_letterC f_letterR f_letterL f_letterS f_letterE f_triangleLimit f_vertexLimit f_slotCount f_draftCount f_bench f_bitsUsed f_nodeCount f_loopDepth f_boundaryCount f_numbered f_taken f_nextNumber f_viewCount a_draftName a_sideTable a_packed a_letterCount a_nodeName a_nodeNext a_nodePrev a_nodeGlue a_loopStack a_boundaryNext a_letters a_offsets a_lengths a_viewName a_viewOpposite g_triangleLimit g_vertexLimit g_slotCount g_draftCount g_viewLength g_peelLength g_peelVertices g_peelBoundary b_draft b_slotList b_slotLength b_slotVertices b_slotBoundary b_viewList b_peelList b_number b_taken b_loop b_rows b_rowLength tl V sc n vn d e hB hX hY hD hS hW I'
  obtain ⟨B1, B2, B3, B4, B5, B6, B7, B8⟩ := hB
  obtain ⟨X1, X2, X3, X4, X5⟩ := hX
  obtain ⟨Y1, Y2, Y3, Y4, Y5⟩ := hY
  obtain ⟨D1, D2, D3, D4, D5, D6⟩ := hD
  cases n with
  | zero =>
    unfold wpX_removeTriangle
    dsimp only
    refine xa_side (n := 0) (d := d) X2 B4 (by decide) D4 v1 v2 (fun c hc e1 e2 => absurd hc (by omega)) (fun h => br_f ar_ng ?_)
    exact ym_rm0 Y4 (fun c hc => ⟨e c, D6 c hc⟩) ⟨rfl, I'⟩
  | succ n =>
    refine xm_rm (d := d) X2 B4 (by omega) X4 D1 D4 D5 (fun hno => ?_) (fun c hc e1 e2 d' aD tab hd' htab hA => ?_)
    · refine ym_rm (e := e) (by omega) Y4 D6 (fun _ => ⟨rfl, I'⟩) (fun c hc e1 e2 bD _ => ?_)
      have hs : md_S (n + 1) e (e c) (e (mq_nx c)) := ⟨c, hc, rfl, rfl⟩
      have hl := md_S_lt D2 hs
      exact absurd ((md_Sm_S D3).mpr hs) (hno _ _ hl.1 hl.2 e1 e2)
    · have hs : md_S (n + 1) d (d c) (d (mq_nx c)) := ⟨c, hc, rfl, rfl⟩
      have hl := md_S_lt D1 hs
      refine ym_rm (e := e) (by omega) Y4 D6 (fun hno => ?_) (fun c' hc' f1 f2 bD hb => ⟨rfl, ?_⟩)
      · obtain ⟨c', hc', g1, g2⟩ := (md_Sm_S D3).mp hs
        exact absurd ⟨e1.trans (by rw [g1]), e2.trans (by rw [g2])⟩ (hno c' hc')
      · have hs' : md_S (n + 1) e (e c') (e (mq_nx c')) := ⟨c', hc', rfl, rfl⟩
        have hl' := md_S_lt D2 hs'
        have k1 := mn_inj (by omega) (by omega) (e1.symm.trans f1)
        have k2 := mn_inj (by omega) (by omega) (e2.symm.trans f2)
        -- the two triangles are the same
        have hif : ∀ j, j < 3 → d (3 * (c / 3) + j) = e (3 * (c' / 3) + j) := by
          obtain ⟨g, hg, hk⟩ := D3.1 (c / 3) (by omega)
          have a1 := hk (c % 3) (by omega)
          have a2 := hk ((c % 3 + 1) % 3) (by omega)
          rw [md_dm] at a1
          rw [← md_nxk, ← mq_at g _ (by omega : c % 3 < 3)] at a2
          have := D2.2.2 (3 * g + c % 3) c' (by omega) hc' (a1.symm.trans k1) (a2.symm.trans k2)
          have : g = c' / 3 := by omega
          rw [← this]
          exact hk
        have hsh : ∀ j k, j < n → k < 3 → re_sh e n (c' / 3) (3 * j + k) = e (3 * (if j < c' / 3 then j else j + 1) + k) := by
          intro j k hj hk
          unfold re_sh
          by_cases hj2 : j < c' / 3
          · rw [if_neg (by omega), if_pos hj2]
          · rw [if_pos (by omega), if_neg hj2]
            exact congrArg e (by omega)
        refine ⟨tl, V, sc, n, vn, d', re_sh e n (c' / 3), ⟨B1, B2, B3, B4, B5, B6, by omega, B8⟩, ⟨X1, X2, X3, rfl, X5⟩, ⟨Y1, Y2, Y3, rfl, Y5⟩, ⟨?_, ?_, ?_, htab, hA, hb⟩, hS, hW⟩
        · refine md_pick (fun j => if j = c / 3 then n else j) D1 (fun j hj => ?_) (fun j j' hj hj' ej => ?_) hd'
          · split <;> omega
          · split at ej <;> split at ej <;> omega
        · refine md_pick (fun j => if j < c' / 3 then j else j + 1) D2 (fun j hj => ?_) (fun j j' hj hj' ej => ?_) hsh
          · split <;> omega
          · split at ej <;> split at ej <;> omega
        · refine md_Sm_pick (i := c / 3) (f := c' / 3) (fun j => if j = c / 3 then n else j) (fun j => if j < c' / 3 then j else j + 1) D1 D2 D3 (by omega) (by omega) hif ?_ ?_ ?_ ?_ hd' hsh
          · intro j hj; split <;> omega
          · intro g hg hne
            by_cases eg : g = n
            · refine ⟨c / 3, by omega, ?_⟩
              rw [if_pos rfl, eg]
            · refine ⟨g, by omega, ?_⟩
              rw [if_neg hne]
          · intro j hj; split <;> omega
          · intro g hg hne
            by_cases eg : g < c' / 3
            · refine ⟨g, by omega, ?_⟩
              rw [if_pos eg]
            · refine ⟨g - 1, by omega, ?_⟩
              rw [if_neg (by omega)]
              omega
end
section
/-! save, match, same -/
theorem mr_fl_ext {T T' : List (Nat × Nat × Nat)} (hl : T.length = T'.length) (h : ∀ c, c < 3 * T.length → mr_fl T c = mr_fl T' c) : T = T' := by
  refine List.ext_getElem hl (fun i h1 h2 => ?_)
  rw [mr_fl_at h1, mr_fl_at h2, h _ (by omega), h _ (by omega), h _ (by omega)]
theorem re_slot_fr {tl V s : Nat} {pk0 pk : Nat → Int64} {lc0 lc : Nat → Int32} {sl sv sb : Int32} {sL : Nat → Int32} {o : Nat} (hF : xp_F pk0 pk lc0 lc) (hs : s < 4) (h : re_slot tl V (lc0 s) (pk0 (2 * s)) (pk0 (2 * s + 1)) sl sv sb sL o) : re_slot tl V (lc s) (pk (2 * s)) (pk (2 * s + 1)) sl sv sb sL o := by
  rw [hF.2 s hs, hF.1 (2 * s) (by omega), hF.1 (2 * s + 1) (by omega)]
  exact h
theorem re_pw {ws ws' : List Nat} {A B A' B' : Int64} (hw : ∀ w, w ∈ ws → mr_let w) (hw' : ∀ w, w ∈ ws' → mr_let w) (l1 : ws.length ≤ 32) (l2 : ws'.length ≤ 32) (h : xb_PK A B (mr_cb ws)) (h' : xb_PK A' B' (mr_cb ws')) :
    (ws = ws' → ws.length = ws'.length ∧ A = A' ∧ B = B') ∧ (ws.length = ws'.length → A = A' → B = B' → ws = ws') := by
  constructor
  · rintro rfl
    exact ⟨rfl, xb_PK_det h h'⟩
  · rintro hl rfl rfl
    have a := mr_cb_len ws
    have b := mr_cb_len ws'
    exact mr_cb_inj hl hw hw' (xb_PK_inj h h' (by omega) (by omega))
section
variable {f_letterC f_letterR f_letterL f_letterS f_letterE f_triangleLimit f_vertexLimit f_slotCount f_draftCount f_bench f_bitsUsed f_nodeCount f_loopDepth f_boundaryCount f_numbered f_taken f_nextNumber f_viewCount : Int32} {a_draftName a_sideTable a_letterCount a_nodeName a_nodeNext a_nodePrev a_nodeGlue a_loopStack a_boundaryNext a_letters a_offsets a_lengths a_viewName a_viewOpposite : Nat → Int32} {a_packed : Nat → Int64}
theorem xe_eq {post : Int32 → Prop} {i j : Nat} {ws ws' : List Nat} (hi : i < 5) (hj : j < 5) (hw : ∀ w, w ∈ ws → mr_let w) (hw' : ∀ w, w ∈ ws' → mr_let w) (l1 : ws.length ≤ 32) (l2 : ws'.length ≤ 32)
    (c1 : a_letterCount i = nI ws.length) (c2 : a_letterCount j = nI ws'.length) (h : xb_PK (a_packed (2 * i)) (a_packed (2 * i + 1)) (mr_cb ws)) (h' : xb_PK (a_packed (2 * j)) (a_packed (2 * j + 1)) (mr_cb ws'))
    (h1 : ws = ws' → post 1) (h0 : ws ≠ ws' → post 0) : wpX_equalWords post (f_letterC, f_letterR, f_letterL, f_letterS, f_letterE, f_triangleLimit, f_vertexLimit, f_slotCount, f_draftCount, f_bench, f_bitsUsed, f_nodeCount, f_loopDepth, f_boundaryCount, f_numbered, f_taken, f_nextNumber, f_viewCount, a_draftName, a_sideTable, a_packed, a_letterCount, a_nodeName, a_nodeNext, a_nodePrev, a_nodeGlue, a_loopStack, a_boundaryNext, a_letters, a_offsets, a_lengths, a_viewName, a_viewOpposite) (nI i) (nI j) := by
  obtain ⟨k1, k2⟩ := re_pw hw hw' l1 l2 h h'
  unfold wpX_equalWords
  dsimp only
  rw [ar_2, ar_2, nI_1 (2 * i), nI_1 (2 * j), nI_clamp (by omega), nI_clamp (by omega), nI_clamp (by omega), nI_clamp (by omega), nI_clamp (by omega), nI_clamp (by omega), c1, c2]
  refine ⟨vp_in_nI hi (by decide), vp_in_nI hj (by decide), pk_eq ws.length ws'.length (fun e1 => ⟨vp_in_nI (by omega) (by decide), vp_in_nI (by omega) (by decide), br_c (fun e2 => ⟨vp_in_nI (by omega) (by decide), vp_in_nI (by omega) (by decide), br_c (fun e3 => h1 (k2 e1 e2 e3)) (fun e3 => h0 (fun z => e3 (k1 z).2.2))⟩) (fun e2 => h0 (fun z => e2 (k1 z).2.1))⟩) (fun e1 => h0 (fun z => e1 (k1 z).1))⟩
theorem xe_match {post : Int32 → SX → Prop} {sc : Nat} {ws : List Nat} {Q : Nat → Prop} {r : Int32} (h3 : f_slotCount = nI sc) (hsc : sc ≤ 4) (hw : ∀ w, w ∈ ws → mr_let w) (l1 : ws.length ≤ 32) (c4 : a_letterCount 4 = nI ws.length) (p4 : xb_PK (a_packed 8) (a_packed 9) (mr_cb ws))
    (hS : ∀ s, s < sc → ((a_letterCount s = 0 ∧ ¬ Q s) ∨ ∃ ws', (∀ w, w ∈ ws' → mr_let w) ∧ ws'.length ≤ 32 ∧ 1 ≤ ws'.length ∧ a_letterCount s = nI ws'.length ∧ xb_PK (a_packed (2 * s)) (a_packed (2 * s + 1)) (mr_cb ws') ∧ (Q s ↔ ws' = ws)))
    (hr : (∃ s, s < sc ∧ Q s ∧ (∀ s', s' < s → ¬ Q s') ∧ r = nI s) ∨ ((∀ s, s < sc → ¬ Q s) ∧ r = -10)) (h : post r (f_letterC, f_letterR, f_letterL, f_letterS, f_letterE, f_triangleLimit, f_vertexLimit, f_slotCount, f_draftCount, f_bench, f_bitsUsed, f_nodeCount, f_loopDepth, f_boundaryCount, f_numbered, f_taken, f_nextNumber, f_viewCount, a_draftName, a_sideTable, a_packed, a_letterCount, a_nodeName, a_nodeNext, a_nodePrev, a_nodeGlue, a_loopStack, a_boundaryNext, a_letters, a_offsets, a_lengths, a_viewName, a_viewOpposite)) :
    ∀ m s, sc - s < m → s ≤ sc → (∀ s', s' < s → ¬ Q s') → wX_match_16 post f_letterC f_letterR f_letterL f_letterS f_letterE f_triangleLimit f_vertexLimit f_slotCount f_draftCount f_bench f_bitsUsed f_nodeCount f_loopDepth f_boundaryCount f_numbered f_taken f_nextNumber f_viewCount a_draftName a_sideTable a_packed a_letterCount a_nodeName a_nodeNext a_nodePrev a_nodeGlue a_loopStack a_boundaryNext a_letters a_offsets a_lengths a_viewName a_viewOpposite m (nI s) := by
  subst h3
  intro m
  induction m with
  | zero => intro s hm; omega
  | succ m ih =>
    intro s hm hs hno
    rw [wX_match_16]
    dsimp only
    refine pk_le sc s (fun hle => ?_) (fun hlt => ?_)
    · rcases hr with ⟨s', a1, a2, _, _⟩ | ⟨_, rfl⟩
      · exact absurd a2 (hno s' (by omega))
      · exact h
    · rw [nI_clamp (by omega)]
      refine ⟨vp_in_nI (by omega) (by decide), ?_⟩
      have next : ¬ Q s → ∀ x : Int32, x = nI s + 1 → wX_match_16 post f_letterC f_letterR f_letterL f_letterS f_letterE f_triangleLimit f_vertexLimit (nI sc) f_draftCount f_bench f_bitsUsed f_nodeCount f_loopDepth f_boundaryCount f_numbered f_taken f_nextNumber f_viewCount a_draftName a_sideTable a_packed a_letterCount a_nodeName a_nodeNext a_nodePrev a_nodeGlue a_loopStack a_boundaryNext a_letters a_offsets a_lengths a_viewName a_viewOpposite m x := by
        intro hq
        refine nm_r (nI_1 s) (ih (s + 1) (by omega) (by omega) (fun s' hs' => ?_))
        by_cases e : s' = s
        · rw [e]; exact hq
        · exact hno s' (by omega)
      rcases hS s hlt with ⟨z1, z2⟩ | ⟨ws', w1, w2, w3, w4, w5, w6⟩
      · exact br_t (by rw [z1]; decide) (next z2)
      · refine br_f (by rw [w4]; exact nI_nle (by omega) (by omega)) ?_
        refine xe_eq (i := s) (j := 4) (by omega) (by decide) w1 hw w2 l1 w4 c4 w5 p4 (fun e => br_f ar_n1 ?_) (fun e => br_t rfl (next (fun z => e (w6.mp z))))
        rcases hr with ⟨s', a1, a2, a3, rfl⟩ | ⟨a1, _⟩
        · have : s' = s := by
            rcases Nat.lt_trichotomy s' s with z | z | z
            · exact absurd a2 (hno s' z)
            · exact z
            · exact absurd (w6.mpr e) (a3 s z)
          rw [← this]
          exact h
        · exact absurd (w6.mpr e) (a1 s hlt)
end
section
variable {f_triangleLimit f_vertexLimit f_slotCount f_draftCount f_viewLength f_peelLength f_peelVertices f_peelBoundary : Int32} {a_draft a_slotList a_slotLength a_slotVertices a_slotBoundary a_viewList a_peelList a_number a_taken a_loop a_rows a_rowLength : Nat → Int32}
theorem ye_save {post : Int32 → SY → Prop} {n s : Nat} (hs : s < 4) (hn : n ≤ 32) (hp : f_peelLength = nI n)
    (h : ∀ sL : Nat → Int32, (∀ c, c < 3 * n → sL (96 * s + c) = a_peelList c) → (∀ j, (j < 96 * s ∨ 96 * s + 3 * n ≤ j) → sL j = a_slotList j) →
      post 0 (f_triangleLimit, f_vertexLimit, f_slotCount, f_draftCount, f_viewLength, f_peelLength, f_peelVertices, f_peelBoundary, a_draft, sL, upd a_slotLength s (nI n), upd a_slotVertices s f_peelVertices, upd a_slotBoundary s f_peelBoundary, a_viewList, a_peelList, a_number, a_taken, a_loop, a_rows, a_rowLength)) :
    ∀ m i, 3 * n - i < m → i ≤ 3 * n → ∀ sL : Nat → Int32, (∀ c, c < i → sL (96 * s + c) = a_peelList c) → (∀ j, (j < 96 * s ∨ 96 * s + i ≤ j) → sL j = a_slotList j) →
      wY_save_30 post (nI s) f_triangleLimit f_vertexLimit f_slotCount f_draftCount f_viewLength f_peelLength f_peelVertices f_peelBoundary m (nI i) a_draft sL a_slotLength a_slotVertices a_slotBoundary a_viewList a_peelList a_number a_taken a_loop a_rows a_rowLength := by
  subst hp
  intro m
  induction m with
  | zero => intro i hm; omega
  | succ m ih =>
    intro i hm hi sL h1 h2
    rw [wY_save_30]
    dsimp only
    rw [ar_3]
    refine pk_le (3 * n) i (fun hle => ?_) (fun hlt => ?_)
    · have ei : i = 3 * n := by omega
      subst ei
      rw [nI_clamp (by omega)]
      exact ⟨vp_in_nI hs (by decide), nm_e ⟨vp_in_nI hs (by decide), nm_e ⟨vp_in_nI hs (by decide), nm_e (h sL h1 h2)⟩⟩⟩
    · rw [ar_96, nI_add, nI_clamp (n := 96 * s + i) (by omega), nI_clamp (n := i) (by omega)]
      refine ⟨vp_in_nI (by omega) (by decide), vp_in_nI (by omega) (by decide), nm_e (nm_r (nI_1 i) (ih (i + 1) (by omega) (by omega) _ (fun c hc => ?_) (fun j hj => ?_)))⟩
      · by_cases ec : c = i
        · rw [ec, pk_us]
        · rw [pk_un (by omega)]; exact h1 c (by omega)
      · rw [pk_un (by omega)]; exact h2 j (by omega)
theorem ye_cmp {post : Int32 → SY → Prop} {J : Int32 → Prop} {n s : Nat} {f g : Nat → Nat} (hs : s < 4) (hn : n ≤ 32) (hp : f_peelLength = nI n) (hf : ∀ c, c < 3 * n → f c < 32 ∧ g c < 32) (h1 : ∀ c, c < 3 * n → a_peelList c = nI (f c)) (h2 : ∀ c, c < 3 * n → a_slotList (96 * s + c) = nI (g c))
    (hy : (∀ c, c < 3 * n → g c = f c) → post (nI s) (f_triangleLimit, f_vertexLimit, f_slotCount, f_draftCount, f_viewLength, f_peelLength, f_peelVertices, f_peelBoundary, a_draft, a_slotList, a_slotLength, a_slotVertices, a_slotBoundary, a_viewList, a_peelList, a_number, a_taken, a_loop, a_rows, a_rowLength)) (hno : (¬ ∀ c, c < 3 * n → g c = f c) → J (nI (s + 1))) :
    ∀ m i, 3 * n - i < m → i ≤ 3 * n → ∀ x5 : Int32, ((x5 = 1 ∧ ∀ c, c < i → g c = f c) ∨ (x5 = 0 ∧ ¬ ∀ c, c < i → g c = f c)) → wY_match_59 post J (nI s) f_triangleLimit f_vertexLimit f_slotCount f_draftCount f_viewLength f_peelLength f_peelVertices f_peelBoundary a_draft a_slotList a_slotLength a_slotVertices a_slotBoundary a_viewList a_peelList a_number a_taken a_loop a_rows a_rowLength m x5 (nI i) := by
  subst hp
  intro m
  induction m with
  | zero => intro i hm; omega
  | succ m ih =>
    intro i hm hi x5 hx
    rw [wY_match_59]
    dsimp only
    rw [ar_3]
    refine pk_le (3 * n) i (fun hle => ?_) (fun hlt => ?_)
    · have ei : i = 3 * n := by omega
      subst ei
      rcases hx with ⟨rfl, hx⟩ | ⟨rfl, hx⟩
      · exact br_f ar_n1 (hy hx)
      · exact br_t rfl (nm_r (nI_1 s) (hno hx))
    · obtain ⟨b1, b2⟩ := hf i hlt
      rw [ar_96, nI_add, nI_clamp (n := 96 * s + i) (by omega), nI_clamp (n := i) (by omega), h1 i hlt, h2 i hlt]
      refine ⟨vp_in_nI (by omega) (by decide), vp_in_nI (by omega) (by decide), pk_eq (g i) (f i) (fun e => nm_r (nI_1 i) (ih (i + 1) (by omega) (by omega) _ ?_)) (fun e => nm_r (nI_1 i) (ih (i + 1) (by omega) (by omega) _ (Or.inr ⟨rfl, fun z => e (z i (by omega))⟩)))⟩
      rcases hx with ⟨rfl, hx⟩ | ⟨rfl, hx⟩
      · refine Or.inl ⟨rfl, fun c hc => ?_⟩
        by_cases ec : c = i
        · rw [ec]; exact e
        · exact hx c (by omega)
      · exact Or.inr ⟨rfl, fun z => hx (fun c hc => z c (by omega))⟩
theorem ye_skip {post : Int32 → SY → Prop} {J : Int32 → Prop} {n s : Nat} (hs : s < 4) (hn : n ≤ 32) (hp : f_peelLength = nI n) (hno : J (nI (s + 1))) : ∀ m i, 3 * n - i < m → i ≤ 3 * n → wY_match_59 post J (nI s) f_triangleLimit f_vertexLimit f_slotCount f_draftCount f_viewLength f_peelLength f_peelVertices f_peelBoundary a_draft a_slotList a_slotLength a_slotVertices a_slotBoundary a_viewList a_peelList a_number a_taken a_loop a_rows a_rowLength m 0 (nI i) := by
  subst hp
  intro m
  induction m with
  | zero => intro i hm; omega
  | succ m ih =>
    intro i hm hi
    rw [wY_match_59]
    dsimp only
    rw [ar_3]
    refine pk_le (3 * n) i (fun hle => br_t rfl (nm_r (nI_1 s) hno)) (fun hlt => ?_)
    rw [ar_96, nI_add]
    exact ⟨vp_in_nI (by omega) (by decide), vp_in_nI (by omega) (by decide), br_c (fun _ => nm_r (nI_1 i) (ih (i + 1) (by omega) (by omega))) (fun _ => nm_r (nI_1 i) (ih (i + 1) (by omega) (by omega)))⟩
theorem ye_match {post : Int32 → SY → Prop} {sc n : Nat} {T : List (Nat × Nat × Nat)} {Q : Nat → Prop} {r : Int32} (h3 : f_slotCount = nI sc) (hsc : sc ≤ 4) (hn : n ≤ 32) (hp : f_peelLength = nI n) (hT : T.length = n) (hTl : ∀ c, c < 3 * n → mr_fl T c < 32) (hP : ∀ c, c < 3 * n → a_peelList c = nI (mr_fl T c))
    (hS : ∀ s, s < sc → ((a_slotLength s = 0 ∧ ¬ Q s) ∨ ∃ T' : List (Nat × Nat × Nat), T'.length ≤ 32 ∧ 1 ≤ T'.length ∧ (∀ c, c < 3 * T'.length → mr_fl T' c < 32) ∧ a_slotLength s = nI T'.length ∧ (∀ c, c < 3 * T'.length → a_slotList (96 * s + c) = nI (mr_fl T' c)) ∧ (Q s ↔ T' = T)))
    (hr : (∃ s, s < sc ∧ Q s ∧ (∀ s', s' < s → ¬ Q s') ∧ r = nI s) ∨ ((∀ s, s < sc → ¬ Q s) ∧ r = -10)) (h : post r (f_triangleLimit, f_vertexLimit, f_slotCount, f_draftCount, f_viewLength, f_peelLength, f_peelVertices, f_peelBoundary, a_draft, a_slotList, a_slotLength, a_slotVertices, a_slotBoundary, a_viewList, a_peelList, a_number, a_taken, a_loop, a_rows, a_rowLength)) :
    ∀ m s, sc - s < m → s ≤ sc → (∀ s', s' < s → ¬ Q s') → wY_match_16 post f_triangleLimit f_vertexLimit f_slotCount f_draftCount f_viewLength f_peelLength f_peelVertices f_peelBoundary a_draft a_slotList a_slotLength a_slotVertices a_slotBoundary a_viewList a_peelList a_number a_taken a_loop a_rows a_rowLength m (nI s) := by
  subst h3
  intro m
  induction m with
  | zero => intro s hm; omega
  | succ m ih =>
    intro s hm hs hno
    rw [wY_match_16]
    dsimp only
    refine pk_le sc s (fun hle => ?_) (fun hlt => ?_)
    · rcases hr with ⟨s', a1, a2, _, _⟩ | ⟨_, rfl⟩
      · exact absurd a2 (hno s' (by omega))
      · exact h
    · rw [nI_clamp (by omega)]
      refine ⟨vp_in_nI (by omega) (by decide), ?_⟩
      have next : ¬ Q s → wY_match_16 post f_triangleLimit f_vertexLimit (nI sc) f_draftCount f_viewLength f_peelLength f_peelVertices f_peelBoundary a_draft a_slotList a_slotLength a_slotVertices a_slotBoundary a_viewList a_peelList a_number a_taken a_loop a_rows a_rowLength m (nI (s + 1)) := by
        intro hq
        refine ih (s + 1) (by omega) (by omega) (fun s' hs' => ?_)
        by_cases e : s' = s
        · rw [e]; exact hq
        · exact hno s' (by omega)
      rcases hS s hlt with ⟨z1, z2⟩ | ⟨T', w1, w2, w3, w4, w5, w6⟩
      · refine br_t (by rw [z1]; decide) ⟨3 * n + 1, ?_⟩
        exact ye_skip (by omega) hn hp (next z2) (3 * n + 1) 0 (by omega) (by omega)
      · refine br_f (by rw [w4]; exact nI_nle (by omega) (by omega)) ⟨vp_in_nI (by omega) (by decide), ?_⟩
        by_cases el : T'.length = n
        · refine br_t (by rw [w4, el, hp]) ⟨3 * n + 1, ?_⟩
          rw [el] at w3 w5
          refine ye_cmp (f := mr_fl T) (g := mr_fl T') (by omega) hn hp (fun c hc => ⟨hTl c hc, w3 c hc⟩) hP w5 (fun hc => ?_) (fun hc => next (fun z => hc (fun c _ => by rw [w6.mp z]))) (3 * n + 1) 0 (by omega) (by omega) _ (Or.inl ⟨rfl, fun c hc => absurd hc (Nat.not_lt_zero _)⟩)
          have e : T' = T := mr_fl_ext (by rw [el, hT]) (fun c hc' => hc c (by omega))
          rcases hr with ⟨s', a1, a2, a3, rfl⟩ | ⟨a1, _⟩
          · have : s' = s := by
              rcases Nat.lt_trichotomy s' s with z | z | z
              · exact absurd a2 (hno s' z)
              · exact z
              · exact absurd (w6.mpr e) (a3 s z)
            rw [← this]
            exact h
          · exact absurd (w6.mpr e) (a1 s hlt)
        · refine br_f (by rw [w4, hp, nI_eq (by omega) (by omega)]; exact el) ⟨3 * n + 1, ?_⟩
          exact ye_skip (by omega) hn hp (next (fun z => el (by rw [w6.mp z, hT]))) (3 * n + 1) 0 (by omega) (by omega)
theorem ye_same {post : Int32 → Prop} {s s' n : Nat} {f g : Nat → Nat} (hs : s < 4) (hs' : s' < 4) (hn : n ≤ 32) (hp : a_slotLength s = nI n) (hf : ∀ c, c < 3 * n → f c < 32 ∧ g c < 32) (h1 : ∀ c, c < 3 * n → a_slotList (96 * s + c) = nI (f c)) (h2 : ∀ c, c < 3 * n → a_slotList (96 * s' + c) = nI (g c))
    (hy : (∀ c, c < 3 * n → f c = g c) → post 1) (hno : (¬ ∀ c, c < 3 * n → f c = g c) → post 0) :
    ∀ m i, 3 * n - i < m → i ≤ 3 * n → (∀ c, c < i → f c = g c) → wY_same_59 post (nI s) (nI s') f_triangleLimit f_vertexLimit f_slotCount f_draftCount f_viewLength f_peelLength f_peelVertices f_peelBoundary a_draft a_slotList a_slotLength a_slotVertices a_slotBoundary a_viewList a_peelList a_number a_taken a_loop a_rows a_rowLength m (nI i) := by
  intro m
  induction m with
  | zero => intro i hm; omega
  | succ m ih =>
    intro i hm hi hx
    rw [wY_same_59]
    dsimp only
    rw [nI_clamp (n := s) (by omega), hp, ar_3]
    refine ⟨vp_in_nI hs (by decide), pk_le (3 * n) i (fun hle => hy (fun c hc => hx c (by omega))) (fun hlt => ?_)⟩
    obtain ⟨b1, b2⟩ := hf i hlt
    rw [ar_96, nI_add, ar_96, nI_add, nI_clamp (n := 96 * s + i) (by omega), nI_clamp (n := 96 * s' + i) (by omega), h1 i hlt, h2 i hlt]
    refine ⟨vp_in_nI (by omega) (by decide), vp_in_nI (by omega) (by decide), pk_eq (f i) (g i) (fun e => nm_r (nI_1 i) (ih (i + 1) (by omega) (by omega) (fun c hc => ?_))) (fun e => hno (fun z => e (z i hlt)))⟩
    by_cases ec : c = i
    · rw [ec]; exact e
    · exact hx c (by omega)
end
end
section
/-! the owed statements of save, match, same -/
theorem re_outY {n : Nat} {d e : Nat → Nat} (h : md_Sm n d e) {p0 p1 r : Int32} {L : Nat} {vs : List Nat} {P : List (Nat × Nat × Nat)} {ws : List Nat} (ho : mo_Out n (md_T n d) (md_B n d) p0 p1 r L vs P ws) : mo_Out n (md_T n e) (md_B n e) p0 p1 r L vs P ws := by
  have eT : md_T n d = md_T n e := by
    funext p q t
    exact propext (md_Sm_T h)
  have eB : md_B n d = md_B n e := by
    funext p q
    exact propext (md_Sm_B h)
  rw [← eT, ← eB]
  exact ho
theorem re_flT {P : List (Nat × Nat × Nat)} {vs : List Nat} {n : Nat} (hP : P.length = n) {c : Nat} (hc : c < 3 * n) : mr_fl (P.map (mr_m3 (fun x => vs.idxOf x))) c = vs.idxOf (mr_fl P c) := mr_fl_map (by omega)
theorem re_lt {m v V : Nat} {T : List (Nat × Nat × Nat)} {ws : List Nat} (h : mt_Rec m v T ws) (hv : v ≤ V) (hV : V ≤ 32) : ∀ c, c < 3 * T.length → mr_fl T c < 32 := fun c hc => by
  have := h.1.1.1 c hc
  omega
theorem i_vc_save {k : Nat} {u : SX} {v : SY} (I : i_Rel k u v) (hk : k + 4 ≤ 2051) (v1 : Int32) (v2 : Int32) (v3 : Int32) : wpX_save (fun r u' => wpY_save (fun r' v' => r' = r ∧ i_Rel (k + 4) u' v') v v1 v2 v3) u v1 v2 v3 := by
  have I' : i_Rel (k + 4) u v := I
  revert I'
  refine re_el (Q := fun u v => i_Rel (k + 4) u v → wpX_save (fun r u' => wpY_save (fun r' v' => r' = r ∧ i_Rel (k + 4) u' v') v v1 v2 v3) u v1 v2 v3) ?_ u v I
  intro f_letterC f_letterR f_letterL f_letterS f_letterE f_triangleLimit f_vertexLimit f_slotCount f_draftCount f_bench f_bitsUsed f_nodeCount f_loopDepth f_boundaryCount f_numbered f_taken f_nextNumber f_viewCount a_draftName a_sideTable a_packed a_letterCount a_nodeName a_nodeNext a_nodePrev a_nodeGlue a_loopStack a_boundaryNext a_letters a_offsets a_lengths a_viewName a_viewOpposite g_triangleLimit g_vertexLimit g_slotCount g_draftCount g_viewLength g_peelLength g_peelVertices g_peelBoundary b_draft b_slotList b_slotLength b_slotVertices b_slotBoundary b_viewList b_peelList b_number b_taken b_loop b_rows b_rowLength tl V sc n vn d e hB hX hY hD hS hW I'
  obtain ⟨B1, B2, B3, B4, B5, B6, B7, B8⟩ := hB
  obtain ⟨X1, X2, X3, X4, X5⟩ := hX
  obtain ⟨Y1, Y2, Y3, Y4, Y5⟩ := hY
  obtain ⟨D1, D2, D3, D4, D5, D6⟩ := hD
  obtain ⟨r, L, vs, P, ws, ho⟩ := mo_ex D1 v2 v3
  have ho' := re_outY D3 ho
  unfold wpX_save
  dsimp only
  refine xa_isSlot v1 X3 B6 (fun hs => ?_) (fun hs => ?_)
  · obtain ⟨s, hs, rfl⟩ := hs
    have hYs : ∀ post : Int32 → Prop, post 1 → wpY_isSlot post (g_triangleLimit, g_vertexLimit, g_slotCount, g_draftCount, g_viewLength, g_peelLength, g_peelVertices, g_peelBoundary, b_draft, b_slotList, b_slotLength, b_slotVertices, b_slotBoundary, b_viewList, b_peelList, b_number, b_taken, b_loop, b_rows, b_rowLength) (nI s) := fun post hp => ya_isSlot _ Y3 B6 (fun _ => hp) (fun z => absurd ⟨s, hs, rfl⟩ z)
    refine br_f ar_n1 ?_
    refine xp_peel (d := d) X2 B4 (by omega) D1 D4 X4 D5 ho (fun nc ld bc nu tk bu pk lc nN nx pv nG st bn hF hok => ?_)
    dsimp only
    by_cases hr : r = 0
    · subst hr
      obtain ⟨M1, M2, M3, M4, M5⟩ := mo_fin D1 B4 ho
      obtain ⟨ok1, ok2⟩ := hok rfl
      refine br_t rfl ?_
      rw [ar_2, nI_1, nI_clamp (by omega), nI_clamp (by omega), nI_clamp (by omega)]
      refine ⟨vp_in_nI (by omega) (by decide), nm_e ⟨vp_in_nI (by omega) (by decide), nm_e ⟨vp_in_nI (by omega) (by decide), nm_e ?_⟩⟩⟩
      unfold wpY_save
      dsimp only
      refine hYs _ (br_f ar_n1 ?_)
      refine yp_peel (e := e) Y2 Y4 (by omega) B4 D2 D6 ho' (fun pl pv' pb pL num tk' loop rows rl hokY => ?_)
      dsimp only
      obtain ⟨rfl, rfl, rfl, okL⟩ := hokY rfl
      refine br_t rfl ⟨3 * n + 1, ?_⟩
      refine ye_save (n := n) (by omega) (by omega) rfl (fun sL hL1 hL2 => ⟨rfl, ?_⟩) (3 * n + 1) 0 (by omega) (by omega) _ (fun c hc => absurd hc (Nat.not_lt_zero _)) (fun j _ => rfl)
      have hlen : (P.map (mr_m3 (fun x => vs.idxOf x))).length = n := by rw [List.length_map, M2]
      refine ⟨tl, V, sc, n, vn, d, e, ⟨B1, B2, B3, B4, B5, B6, B7, B8⟩, ⟨X1, X2, X3, X4, X5⟩, ⟨Y1, Y2, Y3, Y4, Y5⟩, ⟨D1, D2, D3, D4, D5, D6⟩, fun s' hs' => ?_, hW⟩
      by_cases es : s' = s
      · subst es
        refine Or.inr ⟨L, vs.length, P.map (mr_m3 (fun x => vs.idxOf x)), ws, M1, M3, by omega, by omega, ?_, ?_, ?_, ?_, pk_us, pk_us⟩
        · rw [pk_us, ok2, hlen]
        · rw [pk_us, hlen]
        · rw [pk_uLn (by omega), pk_uLs, pk_uLs, pk_uLn (by omega)]
          exact ok1
        · intro c hc
          rw [hlen] at hc
          rw [hL1 c hc, okL c hc, re_flT M2 hc]
      · rw [pk_un es, pk_un es, pk_un es, pk_un es, pk_uLn (by omega), pk_uLn (by omega), pk_uLn (by omega), pk_uLn (by omega)]
        rcases re_slot_fr hF (by omega) (hS s' hs') with z | ⟨m, v, T, ws', q1, q2, q3, q4, q5, q6, q7, q8, q9⟩
        · exact Or.inl z
        · refine Or.inr ⟨m, v, T, ws', q1, q2, q3, q4, q5, q6, q7, fun c hc => ?_, q9⟩
          rw [hL2 _ (by omega)]
          exact q8 c hc
    · refine br_f hr ?_
      unfold wpY_save
      dsimp only
      refine hYs _ (br_f ar_n1 ?_)
      refine yp_peel (e := e) Y2 Y4 (by omega) B4 D2 D6 ho' (fun pl pv' pb pL num tk' loop rows rl hokY => ?_)
      dsimp only
      refine br_f hr ⟨rfl, ?_⟩
      exact ⟨tl, V, sc, n, vn, d, e, ⟨B1, B2, B3, B4, B5, B6, B7, B8⟩, ⟨X1, X2, X3, X4, X5⟩, ⟨Y1, Y2, Y3, Y4, Y5⟩, ⟨D1, D2, D3, D4, D5, D6⟩, fun s' hs' => re_slot_fr hF (by omega) (hS s' hs'), hW⟩
  · refine br_t rfl ?_
    unfold wpY_save
    dsimp only
    exact ya_isSlot _ Y3 B6 (fun z => absurd z hs) (fun _ => br_t rfl ⟨rfl, I'⟩)
theorem i_vc_match {k : Nat} {u : SX} {v : SY} (I : i_Rel k u v) (hk : k + 4 ≤ 2051) (v1 : Int32) (v2 : Int32) : wpX_match (fun r u' => wpY_match (fun r' v' => r' = r ∧ i_Rel (k + 4) u' v') v v1 v2) u v1 v2 := by
  have I' : i_Rel (k + 4) u v := I
  revert I'
  refine re_el (Q := fun u v => i_Rel (k + 4) u v → wpX_match (fun r u' => wpY_match (fun r' v' => r' = r ∧ i_Rel (k + 4) u' v') v v1 v2) u v1 v2) ?_ u v I
  intro f_letterC f_letterR f_letterL f_letterS f_letterE f_triangleLimit f_vertexLimit f_slotCount f_draftCount f_bench f_bitsUsed f_nodeCount f_loopDepth f_boundaryCount f_numbered f_taken f_nextNumber f_viewCount a_draftName a_sideTable a_packed a_letterCount a_nodeName a_nodeNext a_nodePrev a_nodeGlue a_loopStack a_boundaryNext a_letters a_offsets a_lengths a_viewName a_viewOpposite g_triangleLimit g_vertexLimit g_slotCount g_draftCount g_viewLength g_peelLength g_peelVertices g_peelBoundary b_draft b_slotList b_slotLength b_slotVertices b_slotBoundary b_viewList b_peelList b_number b_taken b_loop b_rows b_rowLength tl V sc n vn d e hB hX hY hD hS hW I'
  obtain ⟨B1, B2, B3, B4, B5, B6, B7, B8⟩ := hB
  obtain ⟨X1, X2, X3, X4, X5⟩ := hX
  obtain ⟨Y1, Y2, Y3, Y4, Y5⟩ := hY
  obtain ⟨D1, D2, D3, D4, D5, D6⟩ := hD
  obtain ⟨r, L, vs, P, ws, ho⟩ := mo_ex D1 v1 v2
  have ho' := re_outY D3 ho
  unfold wpX_match
  dsimp only
  refine xp_peel (d := d) X2 B4 (by omega) D1 D4 X4 D5 ho (fun nc ld bc nu tk bu pk lc nN nx pv nG st bn hF hok => ?_)
  dsimp only
  by_cases hr : r = 0
  · subst hr
    obtain ⟨M1, M2, M3, M4, M5⟩ := mo_fin D1 B4 ho
    obtain ⟨ok1, ok2⟩ := hok rfl
    have hlen : (P.map (mr_m3 (fun x => vs.idxOf x))).length = n := by rw [List.length_map, M2]
    have hS' : ∀ s, s < sc → re_slot tl V (lc s) (pk (2 * s)) (pk (2 * s + 1)) (b_slotLength s) (b_slotVertices s) (b_slotBoundary s) b_slotList (96 * s) := fun s hs => re_slot_fr hF (by omega) (hS s hs)
    -- which slots hold the peeled word
    have hQ : ∃ Q : Nat → Prop, ∀ s, s < sc → ((lc s = 0 ∧ b_slotLength s = 0 ∧ ¬ Q s) ∨ ∃ m v T ws', mt_Rec m v T ws' ∧ v ≤ V ∧ T.length ≤ tl ∧ 1 ≤ T.length ∧ lc s = nI T.length ∧ b_slotLength s = nI T.length ∧ xb_PK (pk (2 * s)) (pk (2 * s + 1)) (mr_cb ws') ∧ (∀ c, c < 3 * T.length → b_slotList (96 * s + c) = nI (mr_fl T c)) ∧ (Q s ↔ ws' = ws)) := by
      refine ⟨fun s => ¬ lc s = 0 ∧ ∃ m v T ws', mt_Rec m v T ws' ∧ v ≤ V ∧ T.length ≤ tl ∧ lc s = nI T.length ∧ xb_PK (pk (2 * s)) (pk (2 * s + 1)) (mr_cb ws') ∧ ws' = ws, fun s hs => ?_⟩
      rcases hS' s hs with ⟨z1, z2⟩ | ⟨m, v, T, ws', q1, q2, q3, q4, q5, q6, q7, q8, q9⟩
      · exact Or.inl ⟨z1, z2, fun z => z.1 z1⟩
      · refine Or.inr ⟨m, v, T, ws', q1, q2, q3, q4, q5, q6, q7, q8, ⟨?_, ?_⟩⟩
        · rintro ⟨_, m2, v2', T2, ws2, p1, p2, p3, p4, p5, rfl⟩
          have l1 := mr_nr_len q1.2
          have l2 := mr_nr_len p1.2
          have e1 : T.length = T2.length := by
            rw [q5, nI_eq (by omega) (by omega)] at p4
            exact p4
          exact (re_pw (mr_nr_let q1.2) (mr_nr_let p1.2) (by omega) (by omega) q7 p5).2 (by omega) rfl rfl
        · intro e
          exact ⟨by rw [q5]; exact nI_ne0 (by omega) (by omega), m, v, T, ws', q1, q2, q3, q5, q7, e⟩
    obtain ⟨Q, hQ⟩ := hQ
    obtain ⟨r', hr'⟩ : ∃ r' : Int32, (∃ s, s < sc ∧ Q s ∧ (∀ s', s' < s → ¬ Q s') ∧ r' = nI s) ∨ ((∀ s, s < sc → ¬ Q s) ∧ r' = -10) := by
      by_cases hex : ∃ s, s < sc ∧ Q s
      · obtain ⟨s, ⟨a1, a2⟩, a3⟩ := pk_least (fun s => s < sc ∧ Q s) hex
        exact ⟨nI s, Or.inl ⟨s, a1, a2, fun s' hs' z => a3 s' hs' ⟨by omega, z⟩, rfl⟩⟩
      · exact ⟨-10, Or.inr ⟨fun s hs z => hex ⟨s, hs, z⟩, rfl⟩⟩
    refine br_t rfl ⟨sc + 1, ?_⟩
    refine xe_match (ws := ws) (Q := Q) (r := r') X3 B6 (mr_nr_let M1.2) (by omega) (by rw [ok2, M5]) ok1 (fun s hs => ?_) hr' ?_ (sc + 1) 0 (by omega) (by omega) (fun s' hs' => absurd hs' (Nat.not_lt_zero _))
    · rcases hQ s hs with ⟨z1, _, z3⟩ | ⟨m, v, T, ws', q1, q2, q3, q4, q5, q6, q7, q8, q9⟩
      · exact Or.inl ⟨z1, z3⟩
      · have l1 := mr_nr_len q1.2
        exact Or.inr ⟨ws', mr_nr_let q1.2, by omega, by omega, by rw [q5, l1], q7, q9⟩
    · unfold wpY_match
      dsimp only
      refine yp_peel (e := e) Y2 Y4 (by omega) B4 D2 D6 ho' (fun pl pv' pb pL num tk' loop rows rl hokY => ?_)
      dsimp only
      obtain ⟨rfl, rfl, rfl, okL⟩ := hokY rfl
      refine br_t rfl ⟨sc + 1, ?_⟩
      refine ye_match (T := P.map (mr_m3 (fun x => vs.idxOf x))) (Q := Q) (r := r') (n := n) Y3 B6 (by omega) rfl hlen (fun c hc => ?_) (fun c hc => ?_) (fun s hs => ?_) hr' ?_ (sc + 1) 0 (by omega) (by omega) (fun s' hs' => absurd hs' (Nat.not_lt_zero _))
      · exact re_lt M1 M3 B4 c (by omega)
      · rw [okL c hc, re_flT M2 hc]
      · rcases hQ s hs with ⟨_, z2, z3⟩ | ⟨m, v, T, ws', q1, q2, q3, q4, q5, q6, q7, q8, q9⟩
        · exact Or.inl ⟨z2, z3⟩
        · exact Or.inr ⟨T, by omega, q4, re_lt q1 q2 B4, q6, q8, q9.trans (mt_same q1 M1)⟩
      · refine ⟨rfl, ?_⟩
        exact ⟨tl, V, sc, n, vn, d, e, ⟨B1, B2, B3, B4, B5, B6, B7, B8⟩, ⟨X1, X2, X3, X4, X5⟩, ⟨Y1, Y2, Y3, Y4, Y5⟩, ⟨D1, D2, D3, D4, D5, D6⟩, hS', hW⟩
  · refine br_f hr ?_
    unfold wpY_match
    dsimp only
    refine yp_peel (e := e) Y2 Y4 (by omega) B4 D2 D6 ho' (fun pl pv' pb pL num tk' loop rows rl hokY => ?_)
    dsimp only
    refine br_f hr ⟨rfl, ?_⟩
    exact ⟨tl, V, sc, n, vn, d, e, ⟨B1, B2, B3, B4, B5, B6, B7, B8⟩, ⟨X1, X2, X3, X4, X5⟩, ⟨Y1, Y2, Y3, Y4, Y5⟩, ⟨D1, D2, D3, D4, D5, D6⟩, fun s' hs' => re_slot_fr hF (by omega) (hS s' hs'), hW⟩
theorem i_vc_same {k : Nat} {u : SX} {v : SY} (I : i_Rel k u v) (hk : k + 4 ≤ 2051) (v1 : Int32) (v2 : Int32) : wpX_same (fun r => wpY_same (fun r' => r' = r ∧ i_Rel (k + 4) u v) v v1 v2) u v1 v2 := by
  have I' : i_Rel (k + 4) u v := I
  revert I'
  refine re_el (Q := fun u v => i_Rel (k + 4) u v → wpX_same (fun r => wpY_same (fun r' => r' = r ∧ i_Rel (k + 4) u v) v v1 v2) u v1 v2) ?_ u v I
  intro f_letterC f_letterR f_letterL f_letterS f_letterE f_triangleLimit f_vertexLimit f_slotCount f_draftCount f_bench f_bitsUsed f_nodeCount f_loopDepth f_boundaryCount f_numbered f_taken f_nextNumber f_viewCount a_draftName a_sideTable a_packed a_letterCount a_nodeName a_nodeNext a_nodePrev a_nodeGlue a_loopStack a_boundaryNext a_letters a_offsets a_lengths a_viewName a_viewOpposite g_triangleLimit g_vertexLimit g_slotCount g_draftCount g_viewLength g_peelLength g_peelVertices g_peelBoundary b_draft b_slotList b_slotLength b_slotVertices b_slotBoundary b_viewList b_peelList b_number b_taken b_loop b_rows b_rowLength tl V sc n vn d e hB hX hY hD hS hW I'
  obtain ⟨B1, B2, B3, B4, B5, B6, B7, B8⟩ := hB
  obtain ⟨X1, X2, X3, X4, X5⟩ := hX
  obtain ⟨Y1, Y2, Y3, Y4, Y5⟩ := hY
  obtain ⟨D1, D2, D3, D4, D5, D6⟩ := hD
  unfold wpX_same wpY_same
  dsimp only
  refine xa_isSlot v1 X3 B6 (fun hs => br_f ar_n1 ?_) (fun hs => ?_)
  · refine xa_isSlot v2 X3 B6 (fun hs2 => br_f ar_n1 ?_) (fun hs2 => ?_)
    · obtain ⟨s, hs, rfl⟩ := hs
      obtain ⟨s2, hs2, rfl⟩ := hs2
      have hY1 : ∀ post : Int32 → Prop, post 1 → wpY_isSlot post (g_triangleLimit, g_vertexLimit, g_slotCount, g_draftCount, g_viewLength, g_peelLength, g_peelVertices, g_peelBoundary, b_draft, b_slotList, b_slotLength, b_slotVertices, b_slotBoundary, b_viewList, b_peelList, b_number, b_taken, b_loop, b_rows, b_rowLength) (nI s) := fun post hp => ya_isSlot _ Y3 B6 (fun _ => hp) (fun z => absurd ⟨s, hs, rfl⟩ z)
      have hY2 : ∀ post : Int32 → Prop, post 1 → wpY_isSlot post (g_triangleLimit, g_vertexLimit, g_slotCount, g_draftCount, g_viewLength, g_peelLength, g_peelVertices, g_peelBoundary, b_draft, b_slotList, b_slotLength, b_slotVertices, b_slotBoundary, b_viewList, b_peelList, b_number, b_taken, b_loop, b_rows, b_rowLength) (nI s2) := fun post hp => ya_isSlot _ Y3 B6 (fun _ => hp) (fun z => absurd ⟨s2, hs2, rfl⟩ z)
      rw [nI_clamp (by omega), nI_clamp (by omega)]
      refine ⟨vp_in_nI (by omega) (by decide), ?_⟩
      rcases hS s hs with ⟨z1, z2⟩ | ⟨m, v, T, ws, q1, q2, q3, q4, q5, q6, q7, q8, q9⟩
      · refine br_t z1 (hY1 _ (br_f ar_n1 (hY2 _ (br_f ar_n1 ⟨vp_in_nI (by omega) (by decide), br_t z2 ⟨rfl, I'⟩⟩))))
      · have n1 : ¬ a_letterCount s = 0 := by rw [q5]; exact nI_ne0 (by omega) (by omega)
        have n1' : ¬ b_slotLength s = 0 := by rw [q6]; exact nI_ne0 (by omega) (by omega)
        refine br_f n1 ⟨vp_in_nI (by omega) (by decide), ?_⟩
        rcases hS s2 hs2 with ⟨z1, z2⟩ | ⟨m', v', T', ws', p1, p2, p3, p4, p5, p6, p7, p8, p9⟩
        · refine br_t z1 (hY1 _ (br_f ar_n1 (hY2 _ (br_f ar_n1 ⟨vp_in_nI (by omega) (by decide), br_f n1' ⟨vp_in_nI (by omega) (by decide), br_t z2 ⟨rfl, I'⟩⟩⟩))))
        · have n2 : ¬ a_letterCount s2 = 0 := by rw [p5]; exact nI_ne0 (by omega) (by omega)
          have n2' : ¬ b_slotLength s2 = 0 := by rw [p6]; exact nI_ne0 (by omega) (by omega)
          have l1 := mr_nr_len q1.2
          have l2 := mr_nr_len p1.2
          have hsame := mt_same q1 p1
          have hYY : ∀ post : Int32 → Prop, (T = T' → post 1) → (T ≠ T' → post 0) → wpY_isSlot (fun r_1 => (r_1 = 0 → post (-5)) ∧ (¬ r_1 = 0 → wpY_isSlot (fun r_23 => (r_23 = 0 → post (-5)) ∧ (¬ r_23 = 0 → vp_in (nI s) 4 ∧ ((b_slotLength s = 0 → post (-6)) ∧ (¬ b_slotLength s = 0 → vp_in (nI s2) 4 ∧ ((b_slotLength s2 = 0 → post (-6)) ∧ (¬ b_slotLength s2 = 0 → vp_in (nI s) 4 ∧ (vp_in (nI s2) 4 ∧ ((b_slotLength s = b_slotLength s2 → ∃ n59 : Nat, wY_same_59 post (nI s) (nI s2) g_triangleLimit g_vertexLimit g_slotCount g_draftCount g_viewLength g_peelLength g_peelVertices g_peelBoundary b_draft b_slotList b_slotLength b_slotVertices b_slotBoundary b_viewList b_peelList b_number b_taken b_loop b_rows b_rowLength n59 0) ∧ (¬ b_slotLength s = b_slotLength s2 → post 0)))))))) ) (g_triangleLimit, g_vertexLimit, g_slotCount, g_draftCount, g_viewLength, g_peelLength, g_peelVertices, g_peelBoundary, b_draft, b_slotList, b_slotLength, b_slotVertices, b_slotBoundary, b_viewList, b_peelList, b_number, b_taken, b_loop, b_rows, b_rowLength) (nI s2))) (g_triangleLimit, g_vertexLimit, g_slotCount, g_draftCount, g_viewLength, g_peelLength, g_peelVertices, g_peelBoundary, b_draft, b_slotList, b_slotLength, b_slotVertices, b_slotBoundary, b_viewList, b_peelList, b_number, b_taken, b_loop, b_rows, b_rowLength) (nI s) := by
            intro post hy hno
            refine hY1 _ (br_f ar_n1 (hY2 _ (br_f ar_n1 ⟨vp_in_nI (by omega) (by decide), br_f n1' ⟨vp_in_nI (by omega) (by decide), br_f n2' ⟨vp_in_nI (by omega) (by decide), vp_in_nI (by omega) (by decide), ?_⟩⟩⟩)))
            by_cases el : T.length = T'.length
            · refine br_t (by rw [q6, p6, el]) ⟨3 * T.length + 1, ?_⟩
              refine ye_same (n := T.length) (f := mr_fl T) (g := mr_fl T') (by omega) (by omega) (by omega) q6 (fun c hc => ⟨re_lt q1 q2 B4 c hc, re_lt p1 p2 B4 c (by omega)⟩) q8 (fun c hc => p8 c (by omega)) (fun hc => hy (mr_fl_ext el hc)) (fun hc => hno (fun z => hc (fun c _ => by rw [z]))) (3 * T.length + 1) 0 (by omega) (by omega) (fun c hc => absurd hc (Nat.not_lt_zero _))
            · refine br_f (by rw [q6, p6, nI_eq (by omega) (by omega)]; exact el) (hno (fun z => el (by rw [z])))
          refine br_f n2 ?_
          refine xe_eq (ws := ws) (ws' := ws') (by omega) (by omega) (mr_nr_let q1.2) (mr_nr_let p1.2) (by omega) (by omega) (by rw [q5, l1]) (by rw [p5, l2]) q7 p7 (fun ew => br_f ar_n1 ?_) (fun ew => br_t rfl ?_)
          · exact hYY (fun r' => r' = 1 ∧ i_Rel (k + 4) _ _) (fun _ => ⟨rfl, I'⟩) (fun z => absurd (hsame.mp ew) z)
          · exact hYY (fun r' => r' = 0 ∧ i_Rel (k + 4) _ _) (fun z => absurd (hsame.mpr z) ew) (fun _ => ⟨rfl, I'⟩)
    · refine br_t rfl (ya_isSlot _ Y3 B6 (fun _ => br_f ar_n1 (ya_isSlot _ Y3 B6 (fun z => absurd z hs2) (fun _ => br_t rfl ⟨rfl, I'⟩))) (fun z => absurd hs z))
  · exact br_t rfl (ya_isSlot _ Y3 B6 (fun z => absurd z hs) (fun _ => br_t rfl ⟨rfl, I'⟩))
end
section
/-! measure, open, neighbour, adopt -/
theorem re_lens {m v : Nat} {T : List (Nat × Nat × Nat)} {ws : List Nat} (h : mt_Rec m v T ws) : mr_lens ws = [m] := by
  have := mr_nr_lens h.2
  simp only [List.map_cons, List.map_nil, List.length_range] at this
  exact this.symm
theorem re_okc {n V : Nat} {d f : Nat → Nat} (hf : md_Ok n V f) (h : ∀ c, c < 3 * n → d c = f c) : md_Ok n V d :=
  md_pick (fun j => j) hf (fun j hj => hj) (fun j j' _ _ e => e) (fun j k hj hk => h _ (by omega))
theorem re_smc {n : Nat} {d e : Nat → Nat} (h : ∀ c, c < 3 * n → d c = e c) : md_Sm n d e :=
  ⟨fun i hi => ⟨i, hi, fun k hk => h _ (by omega)⟩, fun i hi => ⟨i, hi, fun k hk => h _ (by omega)⟩⟩
theorem i_vc_measure {k : Nat} {u : SX} {v : SY} (I : i_Rel k u v) (hk : k + 4 ≤ 2051) (v1 : Int32) (v2 : Int32) : wpX_measure (fun r u' => wpY_measure (fun r' => r' = r ∧ i_Rel (k + 4) u' v) v v1 v2) u v1 v2 := by
  have I' : i_Rel (k + 4) u v := I
  revert I'
  refine re_el (Q := fun u v => i_Rel (k + 4) u v → wpX_measure (fun r u' => wpY_measure (fun r' => r' = r ∧ i_Rel (k + 4) u' v) v v1 v2) u v1 v2) ?_ u v I
  intro f_letterC f_letterR f_letterL f_letterS f_letterE f_triangleLimit f_vertexLimit f_slotCount f_draftCount f_bench f_bitsUsed f_nodeCount f_loopDepth f_boundaryCount f_numbered f_taken f_nextNumber f_viewCount a_draftName a_sideTable a_packed a_letterCount a_nodeName a_nodeNext a_nodePrev a_nodeGlue a_loopStack a_boundaryNext a_letters a_offsets a_lengths a_viewName a_viewOpposite g_triangleLimit g_vertexLimit g_slotCount g_draftCount g_viewLength g_peelLength g_peelVertices g_peelBoundary b_draft b_slotList b_slotLength b_slotVertices b_slotBoundary b_viewList b_peelList b_number b_taken b_loop b_rows b_rowLength tl V sc n vn d e hB hX hY hD hS hW I'
  obtain ⟨B1, B2, B3, B4, B5, B6, B7, B8⟩ := hB
  obtain ⟨X1, X2, X3, X4, X5⟩ := hX
  obtain ⟨Y1, Y2, Y3, Y4, Y5⟩ := hY
  obtain ⟨D1, D2, D3, D4, D5, D6⟩ := hD
  unfold wpX_measure
  dsimp only
  refine xa_isSlot v1 X3 B6 (fun hs => br_f ar_n1 ?_) (fun hs => ?_)
  · obtain ⟨s, hs, rfl⟩ := hs
    have hYs : ∀ post : Int32 → Prop, post 1 → wpY_isSlot post (g_triangleLimit, g_vertexLimit, g_slotCount, g_draftCount, g_viewLength, g_peelLength, g_peelVertices, g_peelBoundary, b_draft, b_slotList, b_slotLength, b_slotVertices, b_slotBoundary, b_viewList, b_peelList, b_number, b_taken, b_loop, b_rows, b_rowLength) (nI s) := fun post hp => ya_isSlot _ Y3 B6 (fun _ => hp) (fun z => absurd ⟨s, hs, rfl⟩ z)
    by_cases hw : v2 = 0 ∨ v2 = 1 ∨ v2 = 2
    · -- the reference's answer
      have hY : ∀ (r : Int32) (u' : SX), i_Rel (k + 4) u' (g_triangleLimit, g_vertexLimit, g_slotCount, g_draftCount, g_viewLength, g_peelLength, g_peelVertices, g_peelBoundary, b_draft, b_slotList, b_slotLength, b_slotVertices, b_slotBoundary, b_viewList, b_peelList, b_number, b_taken, b_loop, b_rows, b_rowLength) → ((b_slotLength s = 0 → r = 0) ∧ (¬ b_slotLength s = 0 → (v2 = 0 → r = b_slotLength s) ∧ (v2 = 1 → r = b_slotVertices s) ∧ (v2 = 2 → r = b_slotBoundary s))) → wpY_measure (fun r' => r' = r ∧ i_Rel (k + 4) u' (g_triangleLimit, g_vertexLimit, g_slotCount, g_draftCount, g_viewLength, g_peelLength, g_peelVertices, g_peelBoundary, b_draft, b_slotList, b_slotLength, b_slotVertices, b_slotBoundary, b_viewList, b_peelList, b_number, b_taken, b_loop, b_rows, b_rowLength)) (g_triangleLimit, g_vertexLimit, g_slotCount, g_draftCount, g_viewLength, g_peelLength, g_peelVertices, g_peelBoundary, b_draft, b_slotList, b_slotLength, b_slotVertices, b_slotBoundary, b_viewList, b_peelList, b_number, b_taken, b_loop, b_rows, b_rowLength) (nI s) v2 := by
        intro r u' hI' hrr
        unfold wpY_measure
        dsimp only
        refine hYs _ (br_f ar_n1 ?_)
        have go : wY_measure_28 (fun r' => r' = r ∧ i_Rel (k + 4) u' (g_triangleLimit, g_vertexLimit, g_slotCount, g_draftCount, g_viewLength, g_peelLength, g_peelVertices, g_peelBoundary, b_draft, b_slotList, b_slotLength, b_slotVertices, b_slotBoundary, b_viewList, b_peelList, b_number, b_taken, b_loop, b_rows, b_rowLength)) (nI s) v2 g_triangleLimit g_vertexLimit g_slotCount g_draftCount g_viewLength g_peelLength g_peelVertices g_peelBoundary b_draft b_slotList b_slotLength b_slotVertices b_slotBoundary b_viewList b_peelList b_number b_taken b_loop b_rows b_rowLength := by
          unfold wY_measure_28
          rw [nI_clamp (by omega)]
          refine ⟨vp_in_nI (by omega) (by decide), br_c (fun z => ⟨(hrr.1 z).symm, hI'⟩) (fun z => br_c (fun z0 => ⟨vp_in_nI (by omega) (by decide), ((hrr.2 z).1 z0).symm, hI'⟩) (fun z0 => br_c (fun z1 => ⟨vp_in_nI (by omega) (by decide), ((hrr.2 z).2.1 z1).symm, hI'⟩) (fun z1 => ⟨vp_in_nI (by omega) (by decide), ((hrr.2 z).2.2 ?_).symm, hI'⟩)))⟩
          rcases hw with z' | z' | z'
          · exact absurd z' z0
          · exact absurd z' z1
          · exact z'
        refine br_c (fun _ => go) (fun z0 => br_c (fun _ => go) (fun z1 => br_t ?_ go))
        rcases hw with z' | z' | z'
        · exact absurd z' z0
        · exact absurd z' z1
        · exact z'
      have go : wX_measure_28 (fun r u' => wpY_measure (fun r' => r' = r ∧ i_Rel (k + 4) u' (g_triangleLimit, g_vertexLimit, g_slotCount, g_draftCount, g_viewLength, g_peelLength, g_peelVertices, g_peelBoundary, b_draft, b_slotList, b_slotLength, b_slotVertices, b_slotBoundary, b_viewList, b_peelList, b_number, b_taken, b_loop, b_rows, b_rowLength)) (g_triangleLimit, g_vertexLimit, g_slotCount, g_draftCount, g_viewLength, g_peelLength, g_peelVertices, g_peelBoundary, b_draft, b_slotList, b_slotLength, b_slotVertices, b_slotBoundary, b_viewList, b_peelList, b_number, b_taken, b_loop, b_rows, b_rowLength) (nI s) v2) (nI s) v2 f_letterC f_letterR f_letterL f_letterS f_letterE f_triangleLimit f_vertexLimit f_slotCount f_draftCount f_bench f_bitsUsed f_nodeCount f_loopDepth f_boundaryCount f_numbered f_taken f_nextNumber f_viewCount a_draftName a_sideTable a_packed a_letterCount a_nodeName a_nodeNext a_nodePrev a_nodeGlue a_loopStack a_boundaryNext a_letters a_offsets a_lengths a_viewName a_viewOpposite := by
        unfold wX_measure_28
        rw [nI_clamp (by omega)]
        refine ⟨vp_in_nI (by omega) (by decide), nm_e ?_⟩
        rcases hS s hs with ⟨z1, z2⟩ | ⟨m, v, T, ws, q1, q2, q3, q4, q5, q6, q7, q8, q9, q10⟩
        · refine br_t z1 (hY _ _ I' ⟨fun _ => z1, fun z => absurd z2 z⟩)
        · have n1 : ¬ a_letterCount s = 0 := by rw [q5]; exact nI_ne0 (by omega) (by omega)
          have n1' : ¬ b_slotLength s = 0 := by rw [q6]; exact nI_ne0 (by omega) (by omega)
          have l1 := mr_nr_len q1.2
          refine br_f n1 (br_c (fun z0 => hY _ _ I' ⟨fun z => absurd z n1', fun _ => ⟨fun _ => by rw [q5, q6], fun z => ?_, fun z => ?_⟩⟩) (fun z0 => ?_))
          · rw [z0] at z; exact absurd z (by decide)
          · rw [z0] at z; exact absurd z (by decide)
          · refine xb_unpack (ws := ws) (by omega) (mr_nr_let q1.2) (by omega) (by rw [q5, l1]) q7 (fun le hle => ?_)
            dsimp only
            rw [q5, l1]
            refine xl_scan (ws := ws) (m := m) (by omega) (by omega) (xl_good q1.2) hle (re_lens q1) (fun off len hoff => ?_)
            dsimp only
            have I2 : ∀ le off len : Nat → Int32, i_Rel (k + 4) (f_letterC, f_letterR, f_letterL, f_letterS, f_letterE, f_triangleLimit, f_vertexLimit, f_slotCount, f_draftCount, f_bench, f_bitsUsed, f_nodeCount, f_loopDepth, f_boundaryCount, f_numbered, f_taken, f_nextNumber, f_viewCount, a_draftName, a_sideTable, a_packed, a_letterCount, a_nodeName, a_nodeNext, a_nodePrev, a_nodeGlue, a_loopStack, a_boundaryNext, le, off, len, a_viewName, a_viewOpposite) (g_triangleLimit, g_vertexLimit, g_slotCount, g_draftCount, g_viewLength, g_peelLength, g_peelVertices, g_peelBoundary, b_draft, b_slotList, b_slotLength, b_slotVertices, b_slotBoundary, b_viewList, b_peelList, b_number, b_taken, b_loop, b_rows, b_rowLength) := fun _ _ _ => ⟨tl, V, sc, n, vn, d, e, ⟨B1, B2, B3, B4, B5, B6, B7, B8⟩, ⟨X1, X2, X3, X4, X5⟩, ⟨Y1, Y2, Y3, Y4, Y5⟩, ⟨D1, D2, D3, D4, D5, D6⟩, hS, hW⟩
            refine br_c (fun z1 => ⟨ws.length + 1, ?_⟩) (fun z1 => ?_)
            · refine xl_meas (ws := ws) (a := m) (by omega) (mr_nr_let q1.2) hle ?_ ws [] rfl (ws.length + 1) (by omega)
              refine hY _ _ (I2 _ _ _) ⟨fun z => absurd z n1', fun _ => ⟨fun z => absurd z z0, fun _ => ?_, fun z => ?_⟩⟩
              · rw [q9, mr_nr_cnt q1.2]
              · rw [z1] at z; exact absurd z (by decide)
            · exact hY _ _ (I2 _ _ _) ⟨fun z => absurd z n1', fun _ => ⟨fun z => absurd z z0, fun z => absurd z z1, fun _ => q10.symm⟩⟩
      refine br_c (fun _ => go) (fun z0 => br_c (fun _ => go) (fun z1 => br_t ?_ go))
      rcases hw with z' | z' | z'
      · exact absurd z' z0
      · exact absurd z' z1
      · exact z'
    · refine br_f (fun z => hw (Or.inl z)) (br_f (fun z => hw (Or.inr (Or.inl z))) (br_f (fun z => hw (Or.inr (Or.inr z))) ?_))
      unfold wpY_measure
      dsimp only
      refine hYs _ (br_f ar_n1 ?_)
      exact br_f (fun z => hw (Or.inl z)) (br_f (fun z => hw (Or.inr (Or.inl z))) (br_f (fun z => hw (Or.inr (Or.inr z))) ⟨rfl, I'⟩))
  · refine br_t rfl ?_
    unfold wpY_measure
    dsimp only
    exact ya_isSlot _ Y3 B6 (fun z => absurd z hs) (fun _ => br_t rfl ⟨rfl, I'⟩)
section
variable {f_triangleLimit f_vertexLimit f_slotCount f_draftCount f_viewLength f_peelLength f_peelVertices f_peelBoundary : Int32} {a_draft a_slotList a_slotLength a_slotVertices a_slotBoundary a_viewList a_peelList a_number a_taken a_loop a_rows a_rowLength : Nat → Int32}
theorem ye_open {post : Int32 → SY → Prop} {n s : Nat} (hs : s < 4) (hn : n ≤ 32) (hp : f_viewLength = nI n) (h : ∀ vL : Nat → Int32, (∀ c, c < 3 * n → vL c = a_slotList (96 * s + c)) → post 0 (f_triangleLimit, f_vertexLimit, f_slotCount, f_draftCount, f_viewLength, f_peelLength, f_peelVertices, f_peelBoundary, a_draft, a_slotList, a_slotLength, a_slotVertices, a_slotBoundary, vL, a_peelList, a_number, a_taken, a_loop, a_rows, a_rowLength)) :
    ∀ m i, 3 * n - i < m → i ≤ 3 * n → ∀ vL : Nat → Int32, (∀ c, c < i → vL c = a_slotList (96 * s + c)) → wY_open_35 post (nI s) f_triangleLimit f_vertexLimit f_slotCount f_draftCount f_viewLength f_peelLength f_peelVertices f_peelBoundary m (nI i) a_draft a_slotList a_slotLength a_slotVertices a_slotBoundary vL a_peelList a_number a_taken a_loop a_rows a_rowLength := by
  subst hp
  intro m
  induction m with
  | zero => intro i hm; omega
  | succ m ih =>
    intro i hm hi vL h1
    rw [wY_open_35]
    dsimp only
    rw [ar_3]
    refine pk_le (3 * n) i (fun hle => h vL (fun c hc => h1 c (by omega))) (fun hlt => ?_)
    rw [ar_96, nI_add, nI_clamp (n := 96 * s + i) (by omega), nI_clamp (n := i) (by omega)]
    refine ⟨vp_in_nI (by omega) (by decide), vp_in_nI (by omega) (by decide), nm_e (nm_r (nI_1 i) (ih (i + 1) (by omega) (by omega) _ (fun c hc => ?_)))⟩
    by_cases ec : c = i
    · rw [ec, pk_us]
    · rw [pk_un ec]; exact h1 c (by omega)
theorem ye_adopt {post : Int32 → SY → Prop} {n : Nat} {f e : Nat → Nat} (hn : n ≤ 32) (hp : f_viewLength = nI n) (hf : ∀ c, c < 3 * n → a_viewList c = nI (f c)) (h : ∀ (bD : Nat → Int32) (e' : Nat → Nat), (∀ c, c < 96 → bD c = nI (e' c)) → (∀ c, c < 3 * n → e' c = f c) → post 0 (f_triangleLimit, f_vertexLimit, f_slotCount, f_draftCount, f_viewLength, f_peelLength, f_peelVertices, f_peelBoundary, bD, a_slotList, a_slotLength, a_slotVertices, a_slotBoundary, a_viewList, a_peelList, a_number, a_taken, a_loop, a_rows, a_rowLength)) :
    ∀ m i, 3 * n - i < m → i ≤ 3 * n → ∀ bD : Nat → Int32, (∀ c, c < 96 → bD c = nI (if c < i then f c else e c)) → wY_adopt_20 post f_triangleLimit f_vertexLimit f_slotCount f_draftCount f_viewLength f_peelLength f_peelVertices f_peelBoundary m (nI i) bD a_slotList a_slotLength a_slotVertices a_slotBoundary a_viewList a_peelList a_number a_taken a_loop a_rows a_rowLength := by
  subst hp
  intro m
  induction m with
  | zero => intro i hm; omega
  | succ m ih =>
    intro i hm hi bD h1
    rw [wY_adopt_20]
    dsimp only
    rw [ar_3]
    refine pk_le (3 * n) i (fun hle => ?_) (fun hlt => ?_)
    · refine h bD _ h1 (fun c hc => ?_)
      rw [if_pos (by omega)]
    · rw [nI_clamp (n := i) (by omega), hf i hlt]
      refine ⟨vp_in_nI (by omega) (by decide), vp_in_nI (by omega) (by decide), nm_e (nm_r (nI_1 i) (ih (i + 1) (by omega) (by omega) _ (fun c hc => ?_)))⟩
      by_cases ec : c = i
      · rw [ec, pk_us, if_pos (by omega)]
      · rw [pk_un ec, h1 c hc]
        by_cases h2 : c < i
        · rw [if_pos h2, if_pos (by omega)]
        · rw [if_neg h2, if_neg (by omega)]
theorem ye_nb {post : Int32 → Prop} {n : Nat} {f : Nat → Nat} {x3 x4 : Int32} (hn : n ≤ 32) (hp : f_viewLength = nI n) (hf : ∀ c, c < 3 * n → a_viewList c = nI (f c))
    (h1 : ∀ c, c < 3 * n → x4 = nI (f c) → x3 = nI (f (mq_nx c)) → post (nI (c / 3))) (h0 : (∀ c, c < 3 * n → ¬ (x4 = nI (f c) ∧ x3 = nI (f (mq_nx c)))) → post (-10)) :
    ∀ m i, 3 * n - i < m → i ≤ 3 * n → (∀ c, c < i → ¬ (x4 = nI (f c) ∧ x3 = nI (f (mq_nx c)))) → wY_neighbour_54 post x3 x4 f_triangleLimit f_vertexLimit f_slotCount f_draftCount f_viewLength f_peelLength f_peelVertices f_peelBoundary a_draft a_slotList a_slotLength a_slotVertices a_slotBoundary a_viewList a_peelList a_number a_taken a_loop a_rows a_rowLength m (nI i) := by
  subst hp
  intro m
  induction m with
  | zero => intro i hm; omega
  | succ m ih =>
    intro i hm hi hno
    rw [wY_neighbour_54]
    dsimp only
    rw [ar_3]
    refine pk_le (3 * n) i (fun hle => ?_) (fun hlt => ?_)
    · exact h0 (fun c hc => hno c (by omega))
    · have hx : mq_nx i < 3 * n := mq_lt hlt
      have go : ∀ z : Int32, z = nI (mq_nx i) → wY_neighbour_84 post (wY_neighbour_54 post x3 x4 f_triangleLimit f_vertexLimit f_slotCount f_draftCount (nI n) f_peelLength f_peelVertices f_peelBoundary a_draft a_slotList a_slotLength a_slotVertices a_slotBoundary a_viewList a_peelList a_number a_taken a_loop a_rows a_rowLength m) x3 x4 (nI i) z f_triangleLimit f_vertexLimit f_slotCount f_draftCount (nI n) f_peelLength f_peelVertices f_peelBoundary a_draft a_slotList a_slotLength a_slotVertices a_slotBoundary a_viewList a_peelList a_number a_taken a_loop a_rows a_rowLength := by
        intro z hz
        subst hz
        unfold wY_neighbour_84
        rw [nI_clamp (by omega), hf i hlt, nI_clamp (by omega), hf _ hx, ar_d3 (by omega)]
        have next : ¬ (x4 = nI (f i) ∧ x3 = nI (f (mq_nx i))) → ∀ x : Int32, x = nI i + 1 → wY_neighbour_54 post x3 x4 f_triangleLimit f_vertexLimit f_slotCount f_draftCount (nI n) f_peelLength f_peelVertices f_peelBoundary a_draft a_slotList a_slotLength a_slotVertices a_slotBoundary a_viewList a_peelList a_number a_taken a_loop a_rows a_rowLength m x := by
          intro hne
          refine nm_r (nI_1 i) (ih (i + 1) (by omega) (by omega) (fun c hc => ?_))
          by_cases ec : c = i
          · rw [ec]; exact hne
          · exact hno c (by omega)
        refine ⟨vp_in_nI (by omega) (by decide), br_c (fun e1 => ⟨vp_in_nI (by omega) (by decide), br_c (fun e2 => ⟨ar_n3, h1 i hlt e1.symm e2.symm⟩) (fun e2 => next (fun z => e2 z.2.symm))⟩) (fun e1 => next (fun z => e1 z.1.symm))⟩
      rw [ar_r3 (by omega)]
      refine ⟨ar_n3, pk_eq (i % 3) 2 (fun e2 => go _ ?_) (fun e2 => go _ ?_)⟩
      · rw [mq_nx_a e2, ar_s2 (by omega)]
      · rw [mq_nx_b e2, nI_1]
end
theorem i_vc_open {k : Nat} {u : SX} {v : SY} (I : i_Rel k u v) (hk : k + 4 ≤ 2051) (v1 : Int32) : wpX_open (fun r u' => wpY_open (fun r' v' => r' = r ∧ i_Rel (k + 4) u' v') v v1) u v1 := by
  have I' : i_Rel (k + 4) u v := I
  revert I'
  refine re_el (Q := fun u v => i_Rel (k + 4) u v → wpX_open (fun r u' => wpY_open (fun r' v' => r' = r ∧ i_Rel (k + 4) u' v') v v1) u v1) ?_ u v I
  intro f_letterC f_letterR f_letterL f_letterS f_letterE f_triangleLimit f_vertexLimit f_slotCount f_draftCount f_bench f_bitsUsed f_nodeCount f_loopDepth f_boundaryCount f_numbered f_taken f_nextNumber f_viewCount a_draftName a_sideTable a_packed a_letterCount a_nodeName a_nodeNext a_nodePrev a_nodeGlue a_loopStack a_boundaryNext a_letters a_offsets a_lengths a_viewName a_viewOpposite g_triangleLimit g_vertexLimit g_slotCount g_draftCount g_viewLength g_peelLength g_peelVertices g_peelBoundary b_draft b_slotList b_slotLength b_slotVertices b_slotBoundary b_viewList b_peelList b_number b_taken b_loop b_rows b_rowLength tl V sc n vn d e hB hX hY hD hS hW I'
  obtain ⟨B1, B2, B3, B4, B5, B6, B7, B8⟩ := hB
  obtain ⟨X1, X2, X3, X4, X5⟩ := hX
  obtain ⟨Y1, Y2, Y3, Y4, Y5⟩ := hY
  obtain ⟨D1, D2, D3, D4, D5, D6⟩ := hD
  unfold wpX_open
  dsimp only
  refine xa_isSlot v1 X3 B6 (fun hs => br_f ar_n1 ?_) (fun hs => ?_)
  · obtain ⟨s, hs, rfl⟩ := hs
    have hYs : ∀ post : Int32 → Prop, post 1 → wpY_isSlot post (g_triangleLimit, g_vertexLimit, g_slotCount, g_draftCount, g_viewLength, g_peelLength, g_peelVertices, g_peelBoundary, b_draft, b_slotList, b_slotLength, b_slotVertices, b_slotBoundary, b_viewList, b_peelList, b_number, b_taken, b_loop, b_rows, b_rowLength) (nI s) := fun post hp => ya_isSlot _ Y3 B6 (fun _ => hp) (fun z => absurd ⟨s, hs, rfl⟩ z)
    rw [nI_clamp (by omega)]
    refine ⟨vp_in_nI (by omega) (by decide), nm_e ?_⟩
    rcases hS s hs with ⟨z1, z2⟩ | ⟨m, v, T, ws, q1, q2, q3, q4, q5, q6, q7, q8, q9, q10⟩
    · refine br_t z1 ?_
      unfold wpY_open
      dsimp only
      refine hYs _ (br_f ar_n1 ?_)
      rw [nI_clamp (by omega)]
      exact ⟨vp_in_nI (by omega) (by decide), br_t z2 ⟨rfl, I'⟩⟩
    · have n1 : ¬ a_letterCount s = 0 := by rw [q5]; exact nI_ne0 (by omega) (by omega)
      have n1' : ¬ b_slotLength s = 0 := by rw [q6]; exact nI_ne0 (by omega) (by omega)
      have l1 := mr_nr_len q1.2
      refine br_f n1 ?_
      refine xb_unpack (ws := ws) (by omega) (mr_nr_let q1.2) (by omega) (by rw [q5, l1]) q7 (fun le hle => ?_)
      dsimp only
      rw [q5, l1]
      refine xl_scan (ws := ws) (m := m) (by omega) (by omega) (xl_good q1.2) hle (re_lens q1) (fun off len hoff => ?_)
      dsimp only
      rw [← l1]
      refine xr_rebuild (T := T) (ws := ws) (m := m) (e := v) (by omega) (by omega) q1.1.2.2.1 (by have := q1.1.2.2.2; omega) q1.2 hle hoff (fun nc ld nn nN nx pv gl st vN vO hvN hvO => ?_)
      dsimp only
      unfold wpY_open
      dsimp only
      refine hYs _ (br_f ar_n1 ?_)
      rw [nI_clamp (by omega)]
      refine ⟨vp_in_nI (by omega) (by decide), br_f n1' ⟨vp_in_nI (by omega) (by decide), nm_r q6 ⟨3 * T.length + 1, ?_⟩⟩⟩
      refine ye_open (n := T.length) (by omega) (by omega) rfl (fun vL hvL => ⟨rfl, ?_⟩) (3 * T.length + 1) 0 (by omega) (by omega) _ (fun c hc => absurd hc (Nat.not_lt_zero _))
      refine ⟨tl, V, sc, n, T.length, d, e, ⟨B1, B2, B3, B4, B5, B6, B7, q3⟩, ⟨X1, X2, X3, X4, rfl⟩, ⟨Y1, Y2, Y3, Y4, rfl⟩, ⟨D1, D2, D3, D4, D5, D6⟩, hS, ?_⟩
      refine ⟨mr_fl T, ⟨fun c hc => ?_, q1.1.1.2.1, q1.1.1.2.2⟩, fun c hc => ⟨hvN c hc, ?_⟩, fun c hc => ?_⟩
      · have := q1.1.1.1 c hc; omega
      · rw [hvL c hc, q8 c hc]
      · rcases hvO c hc with ⟨w1, w2, w3⟩ | ⟨c', w1, w2, w3, w4⟩
        · exact Or.inr ⟨w1, ((q1.1.2.1 _ _).mpr ⟨w2, w3⟩).2⟩
        · exact Or.inl ⟨c', w1, w2, w3, w4⟩
  · refine br_t rfl ?_
    unfold wpY_open
    dsimp only
    exact ya_isSlot _ Y3 B6 (fun z => absurd z hs) (fun _ => br_t rfl ⟨rfl, I'⟩)
theorem i_vc_neighbour {k : Nat} {u : SX} {v : SY} (I : i_Rel k u v) (hk : k + 4 ≤ 2051) (v1 : Int32) (v2 : Int32) : wpX_neighbour (fun r => wpY_neighbour (fun r' => r' = r ∧ i_Rel (k + 4) u v) v v1 v2) u v1 v2 := by
  have I' : i_Rel (k + 4) u v := I
  revert I'
  refine re_el (Q := fun u v => i_Rel (k + 4) u v → wpX_neighbour (fun r => wpY_neighbour (fun r' => r' = r ∧ i_Rel (k + 4) u v) v v1 v2) u v1 v2) ?_ u v I
  intro f_letterC f_letterR f_letterL f_letterS f_letterE f_triangleLimit f_vertexLimit f_slotCount f_draftCount f_bench f_bitsUsed f_nodeCount f_loopDepth f_boundaryCount f_numbered f_taken f_nextNumber f_viewCount a_draftName a_sideTable a_packed a_letterCount a_nodeName a_nodeNext a_nodePrev a_nodeGlue a_loopStack a_boundaryNext a_letters a_offsets a_lengths a_viewName a_viewOpposite g_triangleLimit g_vertexLimit g_slotCount g_draftCount g_viewLength g_peelLength g_peelVertices g_peelBoundary b_draft b_slotList b_slotLength b_slotVertices b_slotBoundary b_viewList b_peelList b_number b_taken b_loop b_rows b_rowLength tl V sc n vn d e hB hX hY hD hS hW I'
  obtain ⟨B1, B2, B3, B4, B5, B6, B7, B8⟩ := hB
  obtain ⟨X1, X2, X3, X4, X5⟩ := hX
  obtain ⟨Y1, Y2, Y3, Y4, Y5⟩ := hY
  obtain ⟨D1, D2, D3, D4, D5, D6⟩ := hD
  unfold wpX_neighbour wpY_neighbour
  dsimp only
  obtain ⟨f, F1, F2, F3⟩ := hW
  refine xa_isCorner v1 v2 X5 (by omega) (fun t c ht hc e1 e2 => ?_) (fun hno => ?_)
  · subst e1
    subst e2
    refine br_f ar_n1 ?_
    have hcc : 3 * t + c < 3 * vn := by omega
    have hnx : mq_nx (3 * t + c) = 3 * t + (c + 1) % 3 := mq_at t c hc
    have hnl := mq_lt hcc
    have b1 := F1.1 _ hcc
    have b2 := F1.1 _ hnl
    rw [ar_3, nI_add, nI_clamp (by omega), nI_1, ar_r3 (by omega), nI_add, ← hnx, nI_clamp (by omega), (F2 _ hcc).2, (F2 _ hnl).2]
    refine ⟨vp_in_nI (by omega) (by decide), nm_e ?_⟩
    have hYY : ∀ r : Int32, (∀ c', c' < 3 * vn → f c' = f (mq_nx (3 * t + c)) → f (mq_nx c') = f (3 * t + c) → nI (c' / 3) = r) → (¬ md_S vn f (f (mq_nx (3 * t + c))) (f (3 * t + c)) → (-10 : Int32) = r) →
        (∃ n54 : Nat, wY_neighbour_54 (fun r' => r' = r ∧ i_Rel (k + 4) (f_letterC, f_letterR, f_letterL, f_letterS, f_letterE, f_triangleLimit, f_vertexLimit, f_slotCount, f_draftCount, f_bench, f_bitsUsed, f_nodeCount, f_loopDepth, f_boundaryCount, f_numbered, f_taken, f_nextNumber, f_viewCount, a_draftName, a_sideTable, a_packed, a_letterCount, a_nodeName, a_nodeNext, a_nodePrev, a_nodeGlue, a_loopStack, a_boundaryNext, a_letters, a_offsets, a_lengths, a_viewName, a_viewOpposite) (g_triangleLimit, g_vertexLimit, g_slotCount, g_draftCount, g_viewLength, g_peelLength, g_peelVertices, g_peelBoundary, b_draft, b_slotList, b_slotLength, b_slotVertices, b_slotBoundary, b_viewList, b_peelList, b_number, b_taken, b_loop, b_rows, b_rowLength)) (nI (f (3 * t + c))) (nI (f (mq_nx (3 * t + c)))) g_triangleLimit g_vertexLimit g_slotCount g_draftCount g_viewLength g_peelLength g_peelVertices g_peelBoundary b_draft b_slotList b_slotLength b_slotVertices b_slotBoundary b_viewList b_peelList b_number b_taken b_loop b_rows b_rowLength n54 0) := by
      intro r hr1 hr2
      refine ⟨3 * vn + 1, ye_nb (n := vn) (f := f) (by omega) Y5 (fun c' hc' => (F2 c' hc').2) (fun c' hc' g1 g2 => ⟨hr1 c' hc' ?_ ?_, I'⟩) (fun hno => ⟨hr2 ?_, I'⟩) (3 * vn + 1) 0 (by omega) (by omega) (fun c' hc' => absurd hc' (Nat.not_lt_zero _))⟩
      · have := F1.1 _ hc'
        exact (mn_inj (by omega) (by omega) g1).symm
      · have := F1.1 _ (mq_lt hc')
        exact (mn_inj (by omega) (by omega) g2).symm
      · rintro ⟨c', hc', g1, g2⟩
        exact hno c' hc' ⟨by rw [g1], by rw [g2]⟩
    rcases F3 _ hcc with ⟨c', w1, w2, w3, w4⟩ | ⟨w1, w2⟩
    · rw [w2]
      refine br_t (nI_pos' (by omega)) ⟨ar_n3, ?_⟩
      rw [ar_d3 (by omega)]
      refine ya_isCorner _ _ Y5 (by omega) (fun _ _ _ _ _ _ => ⟨vp_in_nI (by omega) (by decide), nm_e ⟨ar_n3, vp_in_nI (by omega) (by decide), nm_e (hYY _ (fun c'' hc'' g1 g2 => ?_) (fun z => absurd ⟨c', w1, w3, w4⟩ z))⟩⟩) (fun hno => absurd ⟨t, c, ht, hc, rfl, rfl⟩ hno)
      have := F1.2.2 c'' c' hc'' w1 (g1.trans w3.symm) (g2.trans w4.symm)
      rw [this]
    · rw [w1]
      refine br_f ar_ng ?_
      refine ya_isCorner _ _ Y5 (by omega) (fun _ _ _ _ _ _ => ⟨vp_in_nI (by omega) (by decide), nm_e ⟨ar_n3, vp_in_nI (by omega) (by decide), nm_e (hYY _ (fun c'' hc'' g1 g2 => absurd ⟨c'', hc'', g1, g2⟩ w2) (fun _ => rfl))⟩⟩) (fun hno => absurd ⟨t, c, ht, hc, rfl, rfl⟩ hno)
  · refine br_t rfl ?_
    exact ya_isCorner _ _ Y5 (by omega) (fun t c ht hc e1 e2 => absurd ⟨t, c, ht, hc, e1, e2⟩ hno) (fun _ => ⟨rfl, I'⟩)
section
variable {f_letterC f_letterR f_letterL f_letterS f_letterE f_triangleLimit f_vertexLimit f_slotCount f_draftCount f_bench f_bitsUsed f_nodeCount f_loopDepth f_boundaryCount f_numbered f_taken f_nextNumber f_viewCount : Int32} {a_draftName a_sideTable a_letterCount a_nodeName a_nodeNext a_nodePrev a_nodeGlue a_loopStack a_boundaryNext a_letters a_offsets a_lengths a_viewName a_viewOpposite : Nat → Int32} {a_packed : Nat → Int64}
theorem xe_adopt {post : Int32 → SX → Prop} {vn V : Nat} {f : Nat → Nat} (hv : f_viewCount = nI vn) (hvn : vn ≤ 32) (hV : V ≤ 32) (hf : md_Ok vn V f) (hN : ∀ c, c < 3 * vn → a_viewName c = nI (f c))
    (h : ∀ (aD tab : Nat → Int32) (d : Nat → Nat), (∀ c, c < 96 → aD c = nI (d c)) → (∀ c, c < 3 * vn → d c = f c) → xd_Tab vn V d tab → post 0 (f_letterC, f_letterR, f_letterL, f_letterS, f_letterE, f_triangleLimit, f_vertexLimit, f_slotCount, nI vn, f_bench, f_bitsUsed, f_nodeCount, f_loopDepth, f_boundaryCount, f_numbered, f_taken, f_nextNumber, f_viewCount, aD, tab, a_packed, a_letterCount, a_nodeName, a_nodeNext, a_nodePrev, a_nodeGlue, a_loopStack, a_boundaryNext, a_letters, a_offsets, a_lengths, a_viewName, a_viewOpposite)) :
    ∀ m i, vn - i < m → i ≤ vn → ∀ (aD tab : Nat → Int32) (d : Nat → Nat), (∀ c, c < 96 → aD c = nI (d c)) → (∀ c, c < 3 * i → d c = f c) → xd_Tab i V d tab → wX_adopt_16 post m (nI i) f_letterC f_letterR f_letterL f_letterS f_letterE f_triangleLimit f_vertexLimit f_slotCount (nI i) f_bench f_bitsUsed f_nodeCount f_loopDepth f_boundaryCount f_numbered f_taken f_nextNumber f_viewCount aD tab a_packed a_letterCount a_nodeName a_nodeNext a_nodePrev a_nodeGlue a_loopStack a_boundaryNext a_letters a_offsets a_lengths a_viewName a_viewOpposite := by
  subst hv
  intro m
  induction m with
  | zero => intro i hm; omega
  | succ m ih =>
    intro i hm hi aD tab d h1 h2 h3
    rw [wX_adopt_16]
    dsimp only
    refine pk_le vn i (fun hle => ?_) (fun hlt => ?_)
    · have ei : i = vn := by omega
      subst ei
      exact h aD tab d h1 h2 h3
    · have b0 := hf.1 (3 * i) (by omega)
      have b1 := hf.1 (3 * i + 1) (by omega)
      have b2 := hf.1 (3 * i + 2) (by omega)
      rw [ar_3, nI_1 (3 * i), ar_a2, nI_clamp (by omega), nI_clamp (by omega), nI_clamp (by omega), hN _ (by omega), hN _ (by omega), hN _ (by omega)]
      refine ⟨vp_in_nI (by omega) (by decide), vp_in_nI (by omega) (by decide), vp_in_nI (by omega) (by decide), ?_⟩
      refine xs_place (d := d) (d' := re_new d i (f (3 * i)) (f (3 * i + 1)) (f (3 * i + 2))) (by omega) rfl h1 (by omega) (by omega) (by omega) (re_new0 _ _ _ _ _) (re_new1 _ _ _ _ _) (re_new2 _ _ _ _ _) (fun c hc => re_newo _ _ _ _ _ hc) (fun aD' hD => ?_)
      dsimp only
      refine nm_r (nI_1 i) (ih (i + 1) (by omega) (by omega) _ _ _ hD (fun c hc => ?_) (xd_TP_iff.mp (xd_put (A := fun j => j < i) (d := d) hV ?_ ?_ ?_ ?_ ?_ ?_ (xd_TP_iff.mpr h3))))
      · by_cases x2 : c = 3 * i + 2
        · rw [x2, re_new2]
        · by_cases x1 : c = 3 * i + 1
          · rw [x1, re_new1]
          · by_cases x0 : c = 3 * i
            · rw [x0, re_new0]
            · rw [re_newo _ _ _ _ _ (by omega)]
              exact h2 c (by omega)
      · intro c hc
        rcases (by omega : c = 3 * i ∨ c = 3 * i + 1 ∨ c = 3 * i + 2) with rfl | rfl | rfl
        · rw [re_new0]; exact b0
        · rw [re_new1]; exact b1
        · rw [re_new2]; exact b2
      · omega
      · intro j hj; omega
      · omega
      · intro c _ hc; exact re_newo _ _ _ _ _ hc
      · intro j hj; exact Or.inl (by omega)
end
theorem i_vc_adopt {k : Nat} {u : SX} {v : SY} (I : i_Rel k u v) (hk : k + 4 ≤ 2051) : wpX_adopt (fun r u' => wpY_adopt (fun r' v' => r' = r ∧ i_Rel (k + 4) u' v') v) u := by
  have I' : i_Rel (k + 4) u v := I
  revert I'
  refine re_el (Q := fun u v => i_Rel (k + 4) u v → wpX_adopt (fun r u' => wpY_adopt (fun r' v' => r' = r ∧ i_Rel (k + 4) u' v') v) u) ?_ u v I
  intro f_letterC f_letterR f_letterL f_letterS f_letterE f_triangleLimit f_vertexLimit f_slotCount f_draftCount f_bench f_bitsUsed f_nodeCount f_loopDepth f_boundaryCount f_numbered f_taken f_nextNumber f_viewCount a_draftName a_sideTable a_packed a_letterCount a_nodeName a_nodeNext a_nodePrev a_nodeGlue a_loopStack a_boundaryNext a_letters a_offsets a_lengths a_viewName a_viewOpposite g_triangleLimit g_vertexLimit g_slotCount g_draftCount g_viewLength g_peelLength g_peelVertices g_peelBoundary b_draft b_slotList b_slotLength b_slotVertices b_slotBoundary b_viewList b_peelList b_number b_taken b_loop b_rows b_rowLength tl V sc n vn d e hB hX hY hD hS hW I'
  obtain ⟨B1, B2, B3, B4, B5, B6, B7, B8⟩ := hB
  obtain ⟨X1, X2, X3, X4, X5⟩ := hX
  obtain ⟨Y1, Y2, Y3, Y4, Y5⟩ := hY
  obtain ⟨D1, D2, D3, D4, D5, D6⟩ := hD
  unfold wpX_adopt
  dsimp only
  obtain ⟨f, F1, F2, F3⟩ := hW
  by_cases hv0 : vn = 0
  · subst hv0
    refine br_t (by rw [X5]; rfl) ?_
    unfold wpY_adopt
    dsimp only
    exact br_t (by rw [Y5]; rfl) ⟨rfl, I'⟩
  · refine br_f (by rw [X5]; exact nI_ne0 (by omega) (by omega)) ?_
    refine xs_clearDraft (d := d) (by omega) B4 D1 X4 D5 D4 (fun tab ht => ?_)
    dsimp only
    refine ⟨vn + 1, ?_⟩
    refine xe_adopt (vn := vn) (V := V) (f := f) X5 (by omega) B4 F1 (fun c hc => (F2 c hc).1) (fun aD' tab' d' hA1 hA2 hA3 => ?_) (vn + 1) 0 (by omega) (by omega) _ _ d D5 (fun c hc => absurd hc (Nat.not_lt_zero _)) ht
    unfold wpY_adopt
    dsimp only
    refine br_f (by rw [Y5]; exact nI_ne0 (by omega) (by omega)) ⟨3 * vn + 1, ?_⟩
    refine ye_adopt (n := vn) (f := f) (e := e) (by omega) Y5 (fun c hc => (F2 c hc).2) (fun bD' e' hB1 hB2 => ⟨rfl, ?_⟩) (3 * vn + 1) 0 (by omega) (by omega) _ (fun c hc => by rw [if_neg (by omega)]; exact D6 c hc)
    refine ⟨tl, V, sc, vn, vn, d', e', ⟨B1, B2, B3, B4, B5, B6, B8, B8⟩, ⟨X1, X2, X3, rfl, X5⟩, ⟨Y1, Y2, Y3, Y5, Y5⟩, ⟨re_okc F1 hA2, re_okc F1 hB2, re_smc (fun c hc => (hA2 c hc).trans (hB2 c hc).symm), hA3, hA1, hB1⟩, hS, ⟨f, F1, F2, F3⟩⟩
end
