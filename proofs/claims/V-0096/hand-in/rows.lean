section
/-! rows out of kit/rows (pasted) -/
theorem pk_us {f : Nat → Int32} {k : Nat} {x : Int32} : upd f k x k = x := if_pos rfl
theorem pk_un {f : Nat → Int32} {k j : Nat} {x : Int32} (h : j ≠ k) : upd f k x j = f j := if_neg h
theorem pk_sub {a b : Nat} (h : b ≤ a) : nI a - nI b = nI (a - b) := by
  obtain ⟨c, rfl⟩ : ∃ c, a = c + b := ⟨a - b, by omega⟩
  rw [← nI_add, Int32.add_sub_cancel, Nat.add_sub_cancel]
theorem pk_m1 (n : Nat) : nI (n + 1) + (-1) = nI n := by
  rw [← nI_1, Int32.add_assoc, show (1 : Int32) + (-1) = 0 from rfl, Int32.add_zero]
theorem pk_mul (a b : Nat) : nI a * nI b = nI (a * b) := (Int32.ofNat_mul a b).symm
theorem pk_sub_toInt {a b : Nat} (ha : a < 2 ^ 30) (hb : b < 2 ^ 30) : (nI a - nI b).toInt = (a : Int) - b := by
  rw [Int32.toInt_sub, nI_toInt (by omega), nI_toInt (by omega)]
  exact Int.bmod_eq_of_le (by omega) (by omega)
theorem pk_sneg {a b : Nat} (hb : b < 2 ^ 30) (h : a < b) : nI a - nI b < 0 := by
  rw [Int32.lt_iff_toInt_lt, pk_sub_toInt (by omega) hb, show (0 : Int32).toInt = 0 from by decide]
  omega
theorem pk_ix (x : Int32) {n : Nat} (hn : n < 2 ^ 31) : x < 0 ∨ nI n ≤ x ∨ ∃ j : Nat, j < n ∧ x = nI j := by
  by_cases h : x < 0
  · exact Or.inl h
  · obtain ⟨j, hj, rfl⟩ := nI_of h
    by_cases h2 : j < n
    · exact Or.inr (Or.inr ⟨j, h2, rfl⟩)
    · exact Or.inr (Or.inl (nI_le (by omega) hj))
theorem pk_le {x y : Int32} {A B : Prop} (a b : Nat) (f : a ≤ b → A) (g : b < a → B) (hx : x = nI a := by rfl) (hy : y = nI b := by rfl) (ha : a < 2 ^ 31 := by omega) (hb : b < 2 ^ 31 := by omega) : (x ≤ y → A) ∧ (¬ x ≤ y → B) := by
  subst hx hy
  rw [nI_leI ha hb]
  exact ⟨f, fun z => g (by omega)⟩
theorem pk_lt {x y : Int32} {A B : Prop} (a b : Nat) (f : a < b → A) (g : b ≤ a → B) (hx : x = nI a := by rfl) (hy : y = nI b := by rfl) (ha : a < 2 ^ 31 := by omega) (hb : b < 2 ^ 31 := by omega) : (x < y → A) ∧ (¬ x < y → B) := by
  subst hx hy
  rw [nI_ltI ha hb]
  exact ⟨f, fun z => g (by omega)⟩
theorem pk_eq {x y : Int32} {A B : Prop} (a b : Nat) (f : a = b → A) (g : a ≠ b → B) (hx : x = nI a := by rfl) (hy : y = nI b := by rfl) (ha : a < 2 ^ 31 := by omega) (hb : b < 2 ^ 31 := by omega) : (x = y → A) ∧ (¬ x = y → B) := by
  subst hx hy
  rw [nI_eq ha hb]
  exact ⟨f, g⟩
theorem pk_in {x : Int32} (n N : Nat) (h : n < N) (hx : x = nI n := by rfl) (hN : N < 2 ^ 31 := by omega) : vp_in x N := by
  subst hx
  exact vp_in_nI h hN
theorem pk_cl {x : Int32} (n : Nat) (hx : x = nI n := by rfl) (h : n < 2 ^ 31 := by omega) : x.toNatClampNeg = n := by
  subst hx
  exact nI_clamp h
theorem pk_tn {n : Nat} (h : n < 2 ^ 32) : (nI n).toBitVec.toNat = n := Nat.mod_eq_of_lt h
theorem pk_and (x : Int32) {m : Int32} (k : Nat) (hm : m.toBitVec.toNat = 2 ^ k - 1) : x &&& m = nI (x.toBitVec.toNat % 2 ^ k) := by
  apply Int32.toBitVec_inj.mp
  apply BitVec.eq_of_toNat_eq
  rw [Int32.toBitVec_and, BitVec.toNat_and, hm, Nat.and_two_pow_sub_one_eq_mod]
  show _ = (BitVec.ofNat 32 _).toNat
  rw [BitVec.toNat_ofNat]
  exact (Nat.mod_eq_of_lt (Nat.lt_of_le_of_lt (Nat.mod_le _ _) x.toBitVec.isLt)).symm
theorem pk_andN {n : Nat} (h : n < 2 ^ 32) {m : Int32} (k : Nat) (hm : m.toBitVec.toNat = 2 ^ k - 1) : nI n &&& m = nI (n % 2 ^ k) := by
  rw [pk_and _ k hm, pk_tn h]
theorem pk_andE (x : Int32) {m : Int32} (k : Nat) (hm : m.toBitVec.toNat = 2 ^ k - 1) : ∃ j : Nat, j < 2 ^ k ∧ x &&& m = nI j := ⟨_, Nat.mod_lt _ (Nat.two_pow_pos k), pk_and x k hm⟩
theorem pk_andIn (x : Int32) {m : Int32} (k : Nat) (hm : m.toBitVec.toNat = 2 ^ k - 1) (hk : k ≤ 30) : vp_in (x &&& m) (2 ^ k) := by
  obtain ⟨j, hj, e⟩ := pk_andE x k hm
  rw [e]
  exact vp_in_nI hj (Nat.lt_of_le_of_lt (Nat.pow_le_pow_right (by decide) hk) (by decide))
theorem pk_shl (a s : Int32) (k : Nat) (hs : (s.toBitVec.smod 32).toNat = k) : (a <<< s).toBitVec.toNat = a.toBitVec.toNat * 2 ^ k % 2 ^ 32 := by
  show (a.toBitVec <<< (s.toBitVec.smod 32).toNat).toNat = _
  rw [hs, BitVec.toNat_shiftLeft, Nat.shiftLeft_eq]
theorem pk_shlN {n : Nat} (s : Int32) (k : Nat) (hs : (s.toBitVec.smod 32).toNat = k) (h : n * 2 ^ k < 2 ^ 32) : nI n <<< s = nI (n * 2 ^ k) := by
  apply Int32.toBitVec_inj.mp
  apply BitVec.eq_of_toNat_eq
  have hn : n < 2 ^ 32 := Nat.lt_of_le_of_lt (Nat.le_mul_of_pos_right n (Nat.two_pow_pos k)) h
  rw [pk_shl _ _ k hs, pk_tn hn, pk_tn h, Nat.mod_eq_of_lt h]
theorem pk_shr (a s : Int32) (k : Nat) (hs : (s.toBitVec.smod 32).toNat = k) : (a >>> s).toInt = a.toInt >>> k := by
  show (a.toBitVec.sshiftRight (s.toBitVec.smod 32).toNat).toInt = _
  rw [hs, BitVec.toInt_sshiftRight]
  rfl
theorem pk_shrN {n : Nat} (h : n < 2 ^ 31) (s : Int32) (k : Nat) (hs : (s.toBitVec.smod 32).toNat = k) : nI n >>> s = nI (n / 2 ^ k) := by
  apply Int32.toInt_inj.mp
  have h2 : n / 2 ^ k ≤ n := Nat.div_le_self _ _
  rw [pk_shr _ _ k hs, nI_toInt h, nI_toInt (by omega), Int.shiftRight_eq_div_pow]
  rfl
theorem pk_ushr (x s : Int32) (k : Nat) (hs : ((s.toUInt32 &&& Int32.toUInt32 31).toBitVec % 32).toNat = k) : (x.toUInt32 >>> (s.toUInt32 &&& Int32.toUInt32 31)).toInt32.toBitVec.toNat = x.toBitVec.toNat / 2 ^ k := by
  have e : (x.toUInt32 >>> (s.toUInt32 &&& Int32.toUInt32 31)).toInt32.toBitVec = x.toBitVec >>> k := by
    rw [← hs]
    exact UInt32.toBitVec_shiftRight _ _
  rw [e, BitVec.toNat_ushiftRight, Nat.shiftRight_eq_div_pow]
theorem pk_ushrN {n : Nat} (hn : n < 2 ^ 32) (s : Int32) (k : Nat) (hs : ((s.toUInt32 &&& Int32.toUInt32 31).toBitVec % 32).toNat = k) : ((nI n).toUInt32 >>> (s.toUInt32 &&& Int32.toUInt32 31)).toInt32 = nI (n / 2 ^ k) := by
  apply Int32.toBitVec_inj.mp
  apply BitVec.eq_of_toNat_eq
  rw [pk_ushr _ s k hs, pk_tn hn, pk_tn (Nat.lt_of_le_of_lt (Nat.div_le_self _ _) hn)]
theorem nx_and (a b : Nat) : nI a &&& nI b = nI (a &&& b) := by
  apply Int32.toBitVec_inj.1
  show BitVec.ofNat 32 a &&& BitVec.ofNat 32 b = BitVec.ofNat 32 (a &&& b)
  apply BitVec.eq_of_getLsbD_eq
  intro i hi
  simp [hi]
end
section
/-! numbers, codes, stores -/
def zc_u {α : Type} (f : Nat → α) (k : Nat) (v : α) : Nat → α := fun j => if j = k then v else f j
theorem zn_us {α : Type} {f : Nat → α} {k : Nat} {v : α} : zc_u f k v k = v := if_pos rfl
theorem zn_un {α : Type} {f : Nat → α} {k j : Nat} {v : α} (h : j ≠ k) : zc_u f k v j = f j := if_neg h
def zc_b (b : Bool) : Int32 := match b with | true => 1 | false => 0
def zc_d (m : Nat) : Int32 := match m with | 0 => -2 | l + 1 => nI l
def zc_e (m : Nat) : Int32 := match m with | 0 => -1 | l + 1 => nI l
def zc_N (f : Nat → Nat) : Nat → Int32 := fun j => nI (f j)
def zc_B (f : Nat → Bool) : Nat → Int32 := fun j => zc_b (f j)
def zc_O (f : Nat → Nat) : Nat → Int32 := fun j => zc_d (f j)
def zc_E (f : Nat → Nat) : Nat → Int32 := fun j => zc_e (f j)
theorem zn_rN (f : Nat → Nat) (j : Nat) : zc_N f j = nI (f j) := rfl
theorem zn_rB (f : Nat → Bool) (j : Nat) : zc_B f j = zc_b (f j) := rfl
theorem zn_rO (f : Nat → Nat) (j : Nat) : zc_O f j = zc_d (f j) := rfl
theorem zn_rE (f : Nat → Nat) (j : Nat) : zc_E f j = zc_e (f j) := rfl
theorem zn_vb0 : vp_nar .boolean 0 = 0 := by decide
theorem zn_vb1 : vp_nar .boolean 1 = 1 := by decide
theorem zn_b1 : zc_b true = 1 := rfl
theorem zn_b0 : zc_b false = 0 := rfl
theorem zn_d1 (l : Nat) : zc_d (l + 1) = nI l := rfl
theorem zn_d0 : zc_d 0 = -2 := rfl
theorem zn_e1 (l : Nat) : zc_e (l + 1) = nI l := rfl
theorem zn_e0 : zc_e 0 = -1 := rfl
theorem zn_wN (f : Nat → Nat) (k v : Nat) : upd (zc_N f) k (nI v) = zc_N (zc_u f k v) := by
  funext j; unfold upd zc_u zc_N; dsimp only; by_cases h : j = k
  · rw [if_pos h, if_pos h]
  · rw [if_neg h, if_neg h]
theorem zn_wB1 (f : Nat → Bool) (k : Nat) : upd (zc_B f) k 1 = zc_B (zc_u f k true) := by
  funext j; unfold upd zc_u zc_B; dsimp only; by_cases h : j = k
  · rw [if_pos h, if_pos h]; rfl
  · rw [if_neg h, if_neg h]
theorem zn_wB0 (f : Nat → Bool) (k : Nat) : upd (zc_B f) k 0 = zc_B (zc_u f k false) := by
  funext j; unfold upd zc_u zc_B; dsimp only; by_cases h : j = k
  · rw [if_pos h, if_pos h]; rfl
  · rw [if_neg h, if_neg h]
theorem zn_wO (f : Nat → Nat) (k v : Nat) : upd (zc_O f) k (nI v) = zc_O (zc_u f k (v + 1)) := by
  funext j; unfold upd zc_u zc_O; dsimp only; by_cases h : j = k
  · rw [if_pos h, if_pos h]; rfl
  · rw [if_neg h, if_neg h]
theorem zn_wOd (f : Nat → Nat) (k v : Nat) : upd (zc_O f) k (zc_d v) = zc_O (zc_u f k v) := by
  funext j; unfold upd zc_u zc_O; dsimp only; by_cases h : j = k
  · rw [if_pos h, if_pos h]
  · rw [if_neg h, if_neg h]
theorem zn_wO0 (f : Nat → Nat) (k : Nat) : upd (zc_O f) k (-2) = zc_O (zc_u f k 0) := zn_wOd f k 0
theorem zn_wE (f : Nat → Nat) (k v : Nat) : upd (zc_E f) k (nI v) = zc_E (zc_u f k (v + 1)) := by
  funext j; unfold upd zc_u zc_E; dsimp only; by_cases h : j = k
  · rw [if_pos h, if_pos h]; rfl
  · rw [if_neg h, if_neg h]
theorem zn_wEe (f : Nat → Nat) (k v : Nat) : upd (zc_E f) k (zc_e v) = zc_E (zc_u f k v) := by
  funext j; unfold upd zc_u zc_E; dsimp only; by_cases h : j = k
  · rw [if_pos h, if_pos h]
  · rw [if_neg h, if_neg h]
theorem zn_wE0 (f : Nat → Nat) (k : Nat) : upd (zc_E f) k (-1) = zc_E (zc_u f k 0) := zn_wEe f k 0
theorem zn_k4 (a : Nat) : nI a * 4 = nI (a * 4) := pk_mul a 4
theorem zn_k8 (a : Nat) : nI a * 8 = nI (a * 8) := pk_mul a 8
theorem zn_k16 (a : Nat) : nI a * 16 = nI (a * 16) := pk_mul a 16
theorem zn_k32 (a : Nat) : nI a * 32 = nI (a * 32) := pk_mul a 32
theorem zn_m16 (a : Nat) : 16 * nI a = nI (16 * a) := pk_mul 16 a
theorem zn_a64 (a : Nat) : 64 + nI a = nI (64 + a) := nI_add 64 a
theorem zn_a128 (a : Nat) : 128 + nI a = nI (128 + a) := nI_add 128 a
theorem zn_leT {a b : Nat} (hb : b < 2 ^ 31) (h : a ≤ b) : nI a ≤ nI b := nI_le h hb
theorem zn_leF {a b : Nat} (ha : a < 2 ^ 31) (h : b < a) : (nI a ≤ nI b) = False := eq_false (nI_ge h ha)
theorem zn_ltT {a b : Nat} (hb : b < 2 ^ 31) (h : a < b) : nI a < nI b := nI_lt h hb
theorem zn_ltF {a b : Nat} (ha : a < 2 ^ 31) (h : b ≤ a) : (nI a < nI b) = False := eq_false (nI_nlt h ha)
theorem zn_eqF {a b : Nat} (ha : a < 2 ^ 31) (hb : b < 2 ^ 31) (h : a ≠ b) : (nI a = nI b) = False := eq_false (fun e => h ((nI_eq ha hb).mp e))
theorem zn_eqT {a b : Nat} (h : a = b) : (nI a = nI b) = True := eq_true (congrArg nI h)
theorem zn_lt0 {a : Nat} (ha : a < 2 ^ 31) : (nI a < 0) = False := eq_false (nI_pos ha)
theorem zn_0le {a : Nat} (ha : a < 2 ^ 31) : (0 ≤ nI a) = True := eq_true (nI_pos' ha)
theorem zn_d2a : ((-2 : Int32) < 0) = True := by decide
theorem zn_d2b : ((0 : Int32) ≤ -2) = False := by decide
theorem zn_e1a : ((-1 : Int32) < 0) = True := by decide
theorem zn_e1b : ((0 : Int32) ≤ -1) = False := by decide
theorem zn_10 : ((1 : Int32) = 0) = False := by decide
theorem zn_00 : ((0 : Int32) = 0) = True := by decide
theorem zn_sb {a b : Nat} (h : b ≤ a) : nI a - nI b = nI (a - b) := pk_sub h
theorem zn_m1 {a : Nat} (h : 0 < a) : nI a + (-1) = nI (a - 1) := by
  obtain ⟨m, rfl⟩ : ∃ m, a = m + 1 := ⟨a - 1, by omega⟩
  exact pk_m1 m
theorem zn_s1 {a : Nat} (h : 0 < a) : nI a - 1 = nI (a - 1) := by
  obtain ⟨m, rfl⟩ : ∃ m, a = m + 1 := ⟨a - 1, by omega⟩
  exact nI_pred m
theorem zn_sh4 {l : Nat} (h : l < 2 ^ 31) : nI l >>> ((4 : Int32) &&& 31) = nI (l / 16) := pk_shrN h _ 4 (by decide)
theorem zn_an15 {l : Nat} (h : l < 2 ^ 31) : nI l &&& 15 = nI (l % 16) := pk_andN (Nat.lt_of_lt_of_le h (by decide)) 4 (by decide)
theorem zn_dle (a b : Nat) (ha : a < 2 ^ 30) (hb : b < 2 ^ 30) : zc_d a ≤ zc_d b ↔ a ≤ b := by
  cases a with
  | zero => cases b with
    | zero => exact ⟨fun _ => Nat.le_refl 0, fun _ => by decide⟩
    | succ b =>
      refine ⟨fun _ => Nat.zero_le _, fun _ => ?_⟩
      have h := nI_pos' (n := b) (by omega)
      exact Int32.le_trans (by decide : (-2 : Int32) ≤ 0) h
  | succ a => cases b with
    | zero =>
      refine ⟨fun h => ?_, fun h => absurd h (by omega)⟩
      have h1 := nI_pos' (n := a) (by omega)
      exact absurd (Int32.le_trans h1 h) (by decide)
    | succ b => exact (nI_leI (by omega) (by omega)).trans (by omega)
theorem zn_dlt0 (a : Nat) (ha : a < 2 ^ 30) : zc_d a < 0 ↔ a = 0 := by
  cases a with
  | zero => exact ⟨fun _ => rfl, fun _ => by decide⟩
  | succ a => exact ⟨fun h => absurd h (nI_pos (by omega)), fun h => absurd h (by omega)⟩
theorem zn_d0le (a : Nat) (ha : a < 2 ^ 30) : 0 ≤ zc_d a ↔ a ≠ 0 := by
  cases a with
  | zero => exact ⟨fun h => absurd h (by decide), fun h => absurd rfl h⟩
  | succ a => exact ⟨fun _ => by omega, fun _ => nI_pos' (by omega)⟩
theorem zn_elt0 (a : Nat) (ha : a < 2 ^ 30) : zc_e a < 0 ↔ a = 0 := by
  cases a with
  | zero => exact ⟨fun _ => rfl, fun _ => by decide⟩
  | succ a => exact ⟨fun h => absurd h (nI_pos (by omega)), fun h => absurd h (by omega)⟩
theorem zn_e0le (a : Nat) (ha : a < 2 ^ 30) : 0 ≤ zc_e a ↔ a ≠ 0 := by
  cases a with
  | zero => exact ⟨fun h => absurd h (by decide), fun h => absurd rfl h⟩
  | succ a => exact ⟨fun _ => by omega, fun _ => nI_pos' (by omega)⟩
theorem zn_elt (a b : Nat) (ha : a < 2 ^ 30) (hb : b < 2 ^ 30) : zc_e a < nI b ↔ a ≤ b := by
  cases a with
  | zero =>
    refine ⟨fun _ => Nat.zero_le _, fun _ => ?_⟩
    exact Int32.lt_of_lt_of_le (by decide : (-1 : Int32) < 0) (nI_pos' (n := b) (by omega))
  | succ a => exact (nI_ltI (by omega) (by omega)).trans (by omega)
theorem zn_bz (b : Bool) : zc_b b = 0 ↔ b = false := by cases b <;> decide
/-! bits of a small mask -/
theorem zn_1k : ∀ k, k < 8 → (1 : Int32) <<< (nI k &&& 31) = nI (2 ^ k) := by decide +kernel
theorem zn_1k1 : ∀ k, k < 8 → ((1 : Int32) <<< (nI k &&& 31)) - 1 = nI (2 ^ k - 1) := by decide +kernel
theorem zn_or (a b : Nat) : nI a ||| nI b = nI (a ||| b) := by
  apply Int32.toBitVec_inj.1
  show BitVec.ofNat 32 a ||| BitVec.ofNat 32 b = BitVec.ofNat 32 (a ||| b)
  apply BitVec.eq_of_getLsbD_eq
  intro i hi
  simp [hi]
theorem zn_bit {m k : Nat} (hm : m < 256) (hk : k < 8) : nI m &&& ((1 : Int32) <<< (nI k &&& 31)) = 0 ↔ m.testBit k = false := by
  rw [zn_1k k hk, nx_and, ← nI_0, nI_eq (by have := Nat.and_le_left (n := m) (m := 2 ^ k); omega) (by omega)]
  constructor
  · intro e
    have := congrArg (fun z => z.testBit k) e
    simp only [Nat.testBit_and, Nat.testBit_two_pow, decide_true, Bool.and_true, Nat.zero_testBit] at this
    exact this
  · intro h
    apply Nat.eq_of_testBit_eq
    intro i
    rw [Nat.testBit_and, Nat.testBit_two_pow, Nat.zero_testBit]
    by_cases hi : k = i
    · subst hi; rw [h]; rfl
    · rw [decide_eq_false hi, Bool.and_false]
theorem zn_ones {m a : Nat} (hm : m < 256) (ha : a < 8) : nI m &&& nI (2 ^ a - 1) = nI (2 ^ a - 1) ↔ ∀ k, k < a → m.testBit k = true := by
  have h2 : 2 ^ a ≤ 2 ^ 7 := Nat.pow_le_pow_right (by decide) (by omega)
  have h1 : 0 < 2 ^ a := Nat.two_pow_pos a
  rw [nx_and, nI_eq (by have := Nat.and_le_left (n := m) (m := 2 ^ a - 1); omega) (by omega)]
  constructor
  · intro e k hk
    have := congrArg (fun z => z.testBit k) e
    simp only [Nat.testBit_and, Nat.testBit_two_pow_sub_one, hk, decide_true, Bool.and_true] at this
    exact this
  · intro h
    apply Nat.eq_of_testBit_eq
    intro k
    rw [Nat.testBit_and, Nat.testBit_two_pow_sub_one]
    by_cases hk : k < a
    · rw [h k hk]; rfl
    · simp [hk]
/-! comparisons with the literals that occur -/
theorem zn_hT0 {a : Nat} (h : a ≤ 0) : (nI a ≤ (0 : Int32)) = True := eq_true (nI_le (b := 0) h (by decide))
theorem zn_hF0 {a : Nat} (ha : a < 2 ^ 31) (h : 0 < a) : (nI a ≤ (0 : Int32)) = False := eq_false (nI_ge (a := 0) h ha)
theorem zn_qT0 {a : Nat} (h : a = 0) : (nI a = (0 : Int32)) = True := eq_true (congrArg nI h)
theorem zn_qF0 {a : Nat} (ha : a < 2 ^ 31) (h : a ≠ 0) : (nI a = (0 : Int32)) = False := eq_false (fun e => h ((nI_eq (b := 0) ha (by decide)).mp e))
theorem zn_jT0 {a : Nat} (ha : a < 2 ^ 31) (h : 0 < a) : ((0 : Int32) < nI a) = True := eq_true (nI_lt (a := 0) h ha)
theorem zn_jF0 {a : Nat} (h : a ≤ 0) : ((0 : Int32) < nI a) = False := eq_false (nI_nlt (a := 0) h (by decide))
theorem zn_gT1 {a : Nat} (ha : a < 2 ^ 31) (h : 1 ≤ a) : ((1 : Int32) ≤ nI a) = True := eq_true (nI_le (a := 1) h ha)
theorem zn_gF1 {a : Nat} (h : a < 1) : ((1 : Int32) ≤ nI a) = False := eq_false (nI_ge (b := 1) h (by decide))
theorem zn_lT1 {a : Nat} (h : a < 1) : (nI a < (1 : Int32)) = True := eq_true (nI_lt (b := 1) h (by decide))
theorem zn_lF1 {a : Nat} (ha : a < 2 ^ 31) (h : 1 ≤ a) : (nI a < (1 : Int32)) = False := eq_false (nI_nlt (b := 1) h ha)
theorem zn_hT1 {a : Nat} (h : a ≤ 1) : (nI a ≤ (1 : Int32)) = True := eq_true (nI_le (b := 1) h (by decide))
theorem zn_hF1 {a : Nat} (ha : a < 2 ^ 31) (h : 1 < a) : (nI a ≤ (1 : Int32)) = False := eq_false (nI_ge (a := 1) h ha)
theorem zn_qT1 {a : Nat} (h : a = 1) : (nI a = (1 : Int32)) = True := eq_true (congrArg nI h)
theorem zn_qF1 {a : Nat} (ha : a < 2 ^ 31) (h : a ≠ 1) : (nI a = (1 : Int32)) = False := eq_false (fun e => h ((nI_eq (b := 1) ha (by decide)).mp e))
theorem zn_jT1 {a : Nat} (ha : a < 2 ^ 31) (h : 1 < a) : ((1 : Int32) < nI a) = True := eq_true (nI_lt (a := 1) h ha)
theorem zn_jF1 {a : Nat} (h : a ≤ 1) : ((1 : Int32) < nI a) = False := eq_false (nI_nlt (a := 1) h (by decide))
theorem zn_gT2 {a : Nat} (ha : a < 2 ^ 31) (h : 2 ≤ a) : ((2 : Int32) ≤ nI a) = True := eq_true (nI_le (a := 2) h ha)
theorem zn_gF2 {a : Nat} (h : a < 2) : ((2 : Int32) ≤ nI a) = False := eq_false (nI_ge (b := 2) h (by decide))
theorem zn_lT2 {a : Nat} (h : a < 2) : (nI a < (2 : Int32)) = True := eq_true (nI_lt (b := 2) h (by decide))
theorem zn_lF2 {a : Nat} (ha : a < 2 ^ 31) (h : 2 ≤ a) : (nI a < (2 : Int32)) = False := eq_false (nI_nlt (b := 2) h ha)
theorem zn_hT2 {a : Nat} (h : a ≤ 2) : (nI a ≤ (2 : Int32)) = True := eq_true (nI_le (b := 2) h (by decide))
theorem zn_hF2 {a : Nat} (ha : a < 2 ^ 31) (h : 2 < a) : (nI a ≤ (2 : Int32)) = False := eq_false (nI_ge (a := 2) h ha)
theorem zn_qT2 {a : Nat} (h : a = 2) : (nI a = (2 : Int32)) = True := eq_true (congrArg nI h)
theorem zn_qF2 {a : Nat} (ha : a < 2 ^ 31) (h : a ≠ 2) : (nI a = (2 : Int32)) = False := eq_false (fun e => h ((nI_eq (b := 2) ha (by decide)).mp e))
theorem zn_jT2 {a : Nat} (ha : a < 2 ^ 31) (h : 2 < a) : ((2 : Int32) < nI a) = True := eq_true (nI_lt (a := 2) h ha)
theorem zn_jF2 {a : Nat} (h : a ≤ 2) : ((2 : Int32) < nI a) = False := eq_false (nI_nlt (a := 2) h (by decide))
theorem zn_gT3 {a : Nat} (ha : a < 2 ^ 31) (h : 3 ≤ a) : ((3 : Int32) ≤ nI a) = True := eq_true (nI_le (a := 3) h ha)
theorem zn_gF3 {a : Nat} (h : a < 3) : ((3 : Int32) ≤ nI a) = False := eq_false (nI_ge (b := 3) h (by decide))
theorem zn_lT3 {a : Nat} (h : a < 3) : (nI a < (3 : Int32)) = True := eq_true (nI_lt (b := 3) h (by decide))
theorem zn_lF3 {a : Nat} (ha : a < 2 ^ 31) (h : 3 ≤ a) : (nI a < (3 : Int32)) = False := eq_false (nI_nlt (b := 3) h ha)
theorem zn_hT3 {a : Nat} (h : a ≤ 3) : (nI a ≤ (3 : Int32)) = True := eq_true (nI_le (b := 3) h (by decide))
theorem zn_hF3 {a : Nat} (ha : a < 2 ^ 31) (h : 3 < a) : (nI a ≤ (3 : Int32)) = False := eq_false (nI_ge (a := 3) h ha)
theorem zn_qT3 {a : Nat} (h : a = 3) : (nI a = (3 : Int32)) = True := eq_true (congrArg nI h)
theorem zn_qF3 {a : Nat} (ha : a < 2 ^ 31) (h : a ≠ 3) : (nI a = (3 : Int32)) = False := eq_false (fun e => h ((nI_eq (b := 3) ha (by decide)).mp e))
theorem zn_jT3 {a : Nat} (ha : a < 2 ^ 31) (h : 3 < a) : ((3 : Int32) < nI a) = True := eq_true (nI_lt (a := 3) h ha)
theorem zn_jF3 {a : Nat} (h : a ≤ 3) : ((3 : Int32) < nI a) = False := eq_false (nI_nlt (a := 3) h (by decide))
theorem zn_gT4 {a : Nat} (ha : a < 2 ^ 31) (h : 4 ≤ a) : ((4 : Int32) ≤ nI a) = True := eq_true (nI_le (a := 4) h ha)
theorem zn_gF4 {a : Nat} (h : a < 4) : ((4 : Int32) ≤ nI a) = False := eq_false (nI_ge (b := 4) h (by decide))
theorem zn_lT4 {a : Nat} (h : a < 4) : (nI a < (4 : Int32)) = True := eq_true (nI_lt (b := 4) h (by decide))
theorem zn_lF4 {a : Nat} (ha : a < 2 ^ 31) (h : 4 ≤ a) : (nI a < (4 : Int32)) = False := eq_false (nI_nlt (b := 4) h ha)
theorem zn_hT4 {a : Nat} (h : a ≤ 4) : (nI a ≤ (4 : Int32)) = True := eq_true (nI_le (b := 4) h (by decide))
theorem zn_hF4 {a : Nat} (ha : a < 2 ^ 31) (h : 4 < a) : (nI a ≤ (4 : Int32)) = False := eq_false (nI_ge (a := 4) h ha)
theorem zn_qT4 {a : Nat} (h : a = 4) : (nI a = (4 : Int32)) = True := eq_true (congrArg nI h)
theorem zn_qF4 {a : Nat} (ha : a < 2 ^ 31) (h : a ≠ 4) : (nI a = (4 : Int32)) = False := eq_false (fun e => h ((nI_eq (b := 4) ha (by decide)).mp e))
theorem zn_jT4 {a : Nat} (ha : a < 2 ^ 31) (h : 4 < a) : ((4 : Int32) < nI a) = True := eq_true (nI_lt (a := 4) h ha)
theorem zn_jF4 {a : Nat} (h : a ≤ 4) : ((4 : Int32) < nI a) = False := eq_false (nI_nlt (a := 4) h (by decide))
theorem zn_gT5 {a : Nat} (ha : a < 2 ^ 31) (h : 5 ≤ a) : ((5 : Int32) ≤ nI a) = True := eq_true (nI_le (a := 5) h ha)
theorem zn_gF5 {a : Nat} (h : a < 5) : ((5 : Int32) ≤ nI a) = False := eq_false (nI_ge (b := 5) h (by decide))
theorem zn_lT5 {a : Nat} (h : a < 5) : (nI a < (5 : Int32)) = True := eq_true (nI_lt (b := 5) h (by decide))
theorem zn_lF5 {a : Nat} (ha : a < 2 ^ 31) (h : 5 ≤ a) : (nI a < (5 : Int32)) = False := eq_false (nI_nlt (b := 5) h ha)
theorem zn_hT5 {a : Nat} (h : a ≤ 5) : (nI a ≤ (5 : Int32)) = True := eq_true (nI_le (b := 5) h (by decide))
theorem zn_hF5 {a : Nat} (ha : a < 2 ^ 31) (h : 5 < a) : (nI a ≤ (5 : Int32)) = False := eq_false (nI_ge (a := 5) h ha)
theorem zn_qT5 {a : Nat} (h : a = 5) : (nI a = (5 : Int32)) = True := eq_true (congrArg nI h)
theorem zn_qF5 {a : Nat} (ha : a < 2 ^ 31) (h : a ≠ 5) : (nI a = (5 : Int32)) = False := eq_false (fun e => h ((nI_eq (b := 5) ha (by decide)).mp e))
theorem zn_jT5 {a : Nat} (ha : a < 2 ^ 31) (h : 5 < a) : ((5 : Int32) < nI a) = True := eq_true (nI_lt (a := 5) h ha)
theorem zn_jF5 {a : Nat} (h : a ≤ 5) : ((5 : Int32) < nI a) = False := eq_false (nI_nlt (a := 5) h (by decide))
theorem zn_gT6 {a : Nat} (ha : a < 2 ^ 31) (h : 6 ≤ a) : ((6 : Int32) ≤ nI a) = True := eq_true (nI_le (a := 6) h ha)
theorem zn_gF6 {a : Nat} (h : a < 6) : ((6 : Int32) ≤ nI a) = False := eq_false (nI_ge (b := 6) h (by decide))
theorem zn_lT6 {a : Nat} (h : a < 6) : (nI a < (6 : Int32)) = True := eq_true (nI_lt (b := 6) h (by decide))
theorem zn_lF6 {a : Nat} (ha : a < 2 ^ 31) (h : 6 ≤ a) : (nI a < (6 : Int32)) = False := eq_false (nI_nlt (b := 6) h ha)
theorem zn_hT6 {a : Nat} (h : a ≤ 6) : (nI a ≤ (6 : Int32)) = True := eq_true (nI_le (b := 6) h (by decide))
theorem zn_hF6 {a : Nat} (ha : a < 2 ^ 31) (h : 6 < a) : (nI a ≤ (6 : Int32)) = False := eq_false (nI_ge (a := 6) h ha)
theorem zn_qT6 {a : Nat} (h : a = 6) : (nI a = (6 : Int32)) = True := eq_true (congrArg nI h)
theorem zn_qF6 {a : Nat} (ha : a < 2 ^ 31) (h : a ≠ 6) : (nI a = (6 : Int32)) = False := eq_false (fun e => h ((nI_eq (b := 6) ha (by decide)).mp e))
theorem zn_jT6 {a : Nat} (ha : a < 2 ^ 31) (h : 6 < a) : ((6 : Int32) < nI a) = True := eq_true (nI_lt (a := 6) h ha)
theorem zn_jF6 {a : Nat} (h : a ≤ 6) : ((6 : Int32) < nI a) = False := eq_false (nI_nlt (a := 6) h (by decide))
theorem zn_gT7 {a : Nat} (ha : a < 2 ^ 31) (h : 7 ≤ a) : ((7 : Int32) ≤ nI a) = True := eq_true (nI_le (a := 7) h ha)
theorem zn_gF7 {a : Nat} (h : a < 7) : ((7 : Int32) ≤ nI a) = False := eq_false (nI_ge (b := 7) h (by decide))
theorem zn_lT7 {a : Nat} (h : a < 7) : (nI a < (7 : Int32)) = True := eq_true (nI_lt (b := 7) h (by decide))
theorem zn_lF7 {a : Nat} (ha : a < 2 ^ 31) (h : 7 ≤ a) : (nI a < (7 : Int32)) = False := eq_false (nI_nlt (b := 7) h ha)
theorem zn_hT7 {a : Nat} (h : a ≤ 7) : (nI a ≤ (7 : Int32)) = True := eq_true (nI_le (b := 7) h (by decide))
theorem zn_hF7 {a : Nat} (ha : a < 2 ^ 31) (h : 7 < a) : (nI a ≤ (7 : Int32)) = False := eq_false (nI_ge (a := 7) h ha)
theorem zn_qT7 {a : Nat} (h : a = 7) : (nI a = (7 : Int32)) = True := eq_true (congrArg nI h)
theorem zn_qF7 {a : Nat} (ha : a < 2 ^ 31) (h : a ≠ 7) : (nI a = (7 : Int32)) = False := eq_false (fun e => h ((nI_eq (b := 7) ha (by decide)).mp e))
theorem zn_jT7 {a : Nat} (ha : a < 2 ^ 31) (h : 7 < a) : ((7 : Int32) < nI a) = True := eq_true (nI_lt (a := 7) h ha)
theorem zn_jF7 {a : Nat} (h : a ≤ 7) : ((7 : Int32) < nI a) = False := eq_false (nI_nlt (a := 7) h (by decide))
theorem zn_gT8 {a : Nat} (ha : a < 2 ^ 31) (h : 8 ≤ a) : ((8 : Int32) ≤ nI a) = True := eq_true (nI_le (a := 8) h ha)
theorem zn_gF8 {a : Nat} (h : a < 8) : ((8 : Int32) ≤ nI a) = False := eq_false (nI_ge (b := 8) h (by decide))
theorem zn_lT8 {a : Nat} (h : a < 8) : (nI a < (8 : Int32)) = True := eq_true (nI_lt (b := 8) h (by decide))
theorem zn_lF8 {a : Nat} (ha : a < 2 ^ 31) (h : 8 ≤ a) : (nI a < (8 : Int32)) = False := eq_false (nI_nlt (b := 8) h ha)
theorem zn_hT8 {a : Nat} (h : a ≤ 8) : (nI a ≤ (8 : Int32)) = True := eq_true (nI_le (b := 8) h (by decide))
theorem zn_hF8 {a : Nat} (ha : a < 2 ^ 31) (h : 8 < a) : (nI a ≤ (8 : Int32)) = False := eq_false (nI_ge (a := 8) h ha)
theorem zn_qT8 {a : Nat} (h : a = 8) : (nI a = (8 : Int32)) = True := eq_true (congrArg nI h)
theorem zn_qF8 {a : Nat} (ha : a < 2 ^ 31) (h : a ≠ 8) : (nI a = (8 : Int32)) = False := eq_false (fun e => h ((nI_eq (b := 8) ha (by decide)).mp e))
theorem zn_jT8 {a : Nat} (ha : a < 2 ^ 31) (h : 8 < a) : ((8 : Int32) < nI a) = True := eq_true (nI_lt (a := 8) h ha)
theorem zn_jF8 {a : Nat} (h : a ≤ 8) : ((8 : Int32) < nI a) = False := eq_false (nI_nlt (a := 8) h (by decide))
theorem zn_gT12 {a : Nat} (ha : a < 2 ^ 31) (h : 12 ≤ a) : ((12 : Int32) ≤ nI a) = True := eq_true (nI_le (a := 12) h ha)
theorem zn_gF12 {a : Nat} (h : a < 12) : ((12 : Int32) ≤ nI a) = False := eq_false (nI_ge (b := 12) h (by decide))
theorem zn_lT12 {a : Nat} (h : a < 12) : (nI a < (12 : Int32)) = True := eq_true (nI_lt (b := 12) h (by decide))
theorem zn_lF12 {a : Nat} (ha : a < 2 ^ 31) (h : 12 ≤ a) : (nI a < (12 : Int32)) = False := eq_false (nI_nlt (b := 12) h ha)
theorem zn_hT12 {a : Nat} (h : a ≤ 12) : (nI a ≤ (12 : Int32)) = True := eq_true (nI_le (b := 12) h (by decide))
theorem zn_hF12 {a : Nat} (ha : a < 2 ^ 31) (h : 12 < a) : (nI a ≤ (12 : Int32)) = False := eq_false (nI_ge (a := 12) h ha)
theorem zn_qT12 {a : Nat} (h : a = 12) : (nI a = (12 : Int32)) = True := eq_true (congrArg nI h)
theorem zn_qF12 {a : Nat} (ha : a < 2 ^ 31) (h : a ≠ 12) : (nI a = (12 : Int32)) = False := eq_false (fun e => h ((nI_eq (b := 12) ha (by decide)).mp e))
theorem zn_jT12 {a : Nat} (ha : a < 2 ^ 31) (h : 12 < a) : ((12 : Int32) < nI a) = True := eq_true (nI_lt (a := 12) h ha)
theorem zn_jF12 {a : Nat} (h : a ≤ 12) : ((12 : Int32) < nI a) = False := eq_false (nI_nlt (a := 12) h (by decide))
theorem zn_gT48 {a : Nat} (ha : a < 2 ^ 31) (h : 48 ≤ a) : ((48 : Int32) ≤ nI a) = True := eq_true (nI_le (a := 48) h ha)
theorem zn_gF48 {a : Nat} (h : a < 48) : ((48 : Int32) ≤ nI a) = False := eq_false (nI_ge (b := 48) h (by decide))
theorem zn_lT48 {a : Nat} (h : a < 48) : (nI a < (48 : Int32)) = True := eq_true (nI_lt (b := 48) h (by decide))
theorem zn_lF48 {a : Nat} (ha : a < 2 ^ 31) (h : 48 ≤ a) : (nI a < (48 : Int32)) = False := eq_false (nI_nlt (b := 48) h ha)
theorem zn_hT48 {a : Nat} (h : a ≤ 48) : (nI a ≤ (48 : Int32)) = True := eq_true (nI_le (b := 48) h (by decide))
theorem zn_hF48 {a : Nat} (ha : a < 2 ^ 31) (h : 48 < a) : (nI a ≤ (48 : Int32)) = False := eq_false (nI_ge (a := 48) h ha)
theorem zn_qT48 {a : Nat} (h : a = 48) : (nI a = (48 : Int32)) = True := eq_true (congrArg nI h)
theorem zn_qF48 {a : Nat} (ha : a < 2 ^ 31) (h : a ≠ 48) : (nI a = (48 : Int32)) = False := eq_false (fun e => h ((nI_eq (b := 48) ha (by decide)).mp e))
theorem zn_jT48 {a : Nat} (ha : a < 2 ^ 31) (h : 48 < a) : ((48 : Int32) < nI a) = True := eq_true (nI_lt (a := 48) h ha)
theorem zn_jF48 {a : Nat} (h : a ≤ 48) : ((48 : Int32) < nI a) = False := eq_false (nI_nlt (a := 48) h (by decide))
theorem zn_gT120 {a : Nat} (ha : a < 2 ^ 31) (h : 120 ≤ a) : ((120 : Int32) ≤ nI a) = True := eq_true (nI_le (a := 120) h ha)
theorem zn_gF120 {a : Nat} (h : a < 120) : ((120 : Int32) ≤ nI a) = False := eq_false (nI_ge (b := 120) h (by decide))
theorem zn_lT120 {a : Nat} (h : a < 120) : (nI a < (120 : Int32)) = True := eq_true (nI_lt (b := 120) h (by decide))
theorem zn_lF120 {a : Nat} (ha : a < 2 ^ 31) (h : 120 ≤ a) : (nI a < (120 : Int32)) = False := eq_false (nI_nlt (b := 120) h ha)
theorem zn_hT120 {a : Nat} (h : a ≤ 120) : (nI a ≤ (120 : Int32)) = True := eq_true (nI_le (b := 120) h (by decide))
theorem zn_hF120 {a : Nat} (ha : a < 2 ^ 31) (h : 120 < a) : (nI a ≤ (120 : Int32)) = False := eq_false (nI_ge (a := 120) h ha)
theorem zn_qT120 {a : Nat} (h : a = 120) : (nI a = (120 : Int32)) = True := eq_true (congrArg nI h)
theorem zn_qF120 {a : Nat} (ha : a < 2 ^ 31) (h : a ≠ 120) : (nI a = (120 : Int32)) = False := eq_false (fun e => h ((nI_eq (b := 120) ha (by decide)).mp e))
theorem zn_jT120 {a : Nat} (ha : a < 2 ^ 31) (h : 120 < a) : ((120 : Int32) < nI a) = True := eq_true (nI_lt (a := 120) h ha)
theorem zn_jF120 {a : Nat} (h : a ≤ 120) : ((120 : Int32) < nI a) = False := eq_false (nI_nlt (a := 120) h (by decide))
theorem zn_gT124 {a : Nat} (ha : a < 2 ^ 31) (h : 124 ≤ a) : ((124 : Int32) ≤ nI a) = True := eq_true (nI_le (a := 124) h ha)
theorem zn_gF124 {a : Nat} (h : a < 124) : ((124 : Int32) ≤ nI a) = False := eq_false (nI_ge (b := 124) h (by decide))
theorem zn_lT124 {a : Nat} (h : a < 124) : (nI a < (124 : Int32)) = True := eq_true (nI_lt (b := 124) h (by decide))
theorem zn_lF124 {a : Nat} (ha : a < 2 ^ 31) (h : 124 ≤ a) : (nI a < (124 : Int32)) = False := eq_false (nI_nlt (b := 124) h ha)
theorem zn_hT124 {a : Nat} (h : a ≤ 124) : (nI a ≤ (124 : Int32)) = True := eq_true (nI_le (b := 124) h (by decide))
theorem zn_hF124 {a : Nat} (ha : a < 2 ^ 31) (h : 124 < a) : (nI a ≤ (124 : Int32)) = False := eq_false (nI_ge (a := 124) h ha)
theorem zn_qT124 {a : Nat} (h : a = 124) : (nI a = (124 : Int32)) = True := eq_true (congrArg nI h)
theorem zn_qF124 {a : Nat} (ha : a < 2 ^ 31) (h : a ≠ 124) : (nI a = (124 : Int32)) = False := eq_false (fun e => h ((nI_eq (b := 124) ha (by decide)).mp e))
theorem zn_jT124 {a : Nat} (ha : a < 2 ^ 31) (h : 124 < a) : ((124 : Int32) < nI a) = True := eq_true (nI_lt (a := 124) h ha)
theorem zn_jF124 {a : Nat} (h : a ≤ 124) : ((124 : Int32) < nI a) = False := eq_false (nI_nlt (a := 124) h (by decide))
theorem zn_gT128 {a : Nat} (ha : a < 2 ^ 31) (h : 128 ≤ a) : ((128 : Int32) ≤ nI a) = True := eq_true (nI_le (a := 128) h ha)
theorem zn_gF128 {a : Nat} (h : a < 128) : ((128 : Int32) ≤ nI a) = False := eq_false (nI_ge (b := 128) h (by decide))
theorem zn_lT128 {a : Nat} (h : a < 128) : (nI a < (128 : Int32)) = True := eq_true (nI_lt (b := 128) h (by decide))
theorem zn_lF128 {a : Nat} (ha : a < 2 ^ 31) (h : 128 ≤ a) : (nI a < (128 : Int32)) = False := eq_false (nI_nlt (b := 128) h ha)
theorem zn_hT128 {a : Nat} (h : a ≤ 128) : (nI a ≤ (128 : Int32)) = True := eq_true (nI_le (b := 128) h (by decide))
theorem zn_hF128 {a : Nat} (ha : a < 2 ^ 31) (h : 128 < a) : (nI a ≤ (128 : Int32)) = False := eq_false (nI_ge (a := 128) h ha)
theorem zn_qT128 {a : Nat} (h : a = 128) : (nI a = (128 : Int32)) = True := eq_true (congrArg nI h)
theorem zn_qF128 {a : Nat} (ha : a < 2 ^ 31) (h : a ≠ 128) : (nI a = (128 : Int32)) = False := eq_false (fun e => h ((nI_eq (b := 128) ha (by decide)).mp e))
theorem zn_jT128 {a : Nat} (ha : a < 2 ^ 31) (h : 128 < a) : ((128 : Int32) < nI a) = True := eq_true (nI_lt (a := 128) h ha)
theorem zn_jF128 {a : Nat} (h : a ≤ 128) : ((128 : Int32) < nI a) = False := eq_false (nI_nlt (a := 128) h (by decide))
theorem zn_gT560 {a : Nat} (ha : a < 2 ^ 31) (h : 560 ≤ a) : ((560 : Int32) ≤ nI a) = True := eq_true (nI_le (a := 560) h ha)
theorem zn_gF560 {a : Nat} (h : a < 560) : ((560 : Int32) ≤ nI a) = False := eq_false (nI_ge (b := 560) h (by decide))
theorem zn_lT560 {a : Nat} (h : a < 560) : (nI a < (560 : Int32)) = True := eq_true (nI_lt (b := 560) h (by decide))
theorem zn_lF560 {a : Nat} (ha : a < 2 ^ 31) (h : 560 ≤ a) : (nI a < (560 : Int32)) = False := eq_false (nI_nlt (b := 560) h ha)
theorem zn_hT560 {a : Nat} (h : a ≤ 560) : (nI a ≤ (560 : Int32)) = True := eq_true (nI_le (b := 560) h (by decide))
theorem zn_hF560 {a : Nat} (ha : a < 2 ^ 31) (h : 560 < a) : (nI a ≤ (560 : Int32)) = False := eq_false (nI_ge (a := 560) h ha)
theorem zn_qT560 {a : Nat} (h : a = 560) : (nI a = (560 : Int32)) = True := eq_true (congrArg nI h)
theorem zn_qF560 {a : Nat} (ha : a < 2 ^ 31) (h : a ≠ 560) : (nI a = (560 : Int32)) = False := eq_false (fun e => h ((nI_eq (b := 560) ha (by decide)).mp e))
theorem zn_jT560 {a : Nat} (ha : a < 2 ^ 31) (h : 560 < a) : ((560 : Int32) < nI a) = True := eq_true (nI_lt (a := 560) h ha)
theorem zn_jF560 {a : Nat} (h : a ≤ 560) : ((560 : Int32) < nI a) = False := eq_false (nI_nlt (a := 560) h (by decide))
end
section
/-! counts, searches, vectors: pure -/
def zf_cnt (q : Nat → Bool) : Nat → Nat → Nat
  | 0, _ => 0
  | d + 1, i => (if q i = true then 1 else 0) + zf_cnt q d (i + 1)
def zf_last (q : Nat → Bool) : Nat → Nat
  | 0 => 0
  | i + 1 => if q (i + 1) = true then i + 1 else zf_last q i
def zf_ff (q : Nat → Bool) : Nat → Nat → Nat
  | 0, i => i
  | d + 1, i => if q i = true then i else zf_ff q d (i + 1)
def zf_ex (q : Nat → Bool) : Nat → Nat → Bool
  | 0, _ => false
  | d + 1, i => if q i = true then true else zf_ex q d (i + 1)
def zf_mx (w : Nat → Nat) : Nat → Nat → Nat → Nat
  | 0, _, b => b
  | d + 1, i, b => zf_mx w d (i + 1) (if w i ≤ b then b else w i)
theorem zf_cnt_le (q : Nat → Bool) : ∀ d i, zf_cnt q d i ≤ d := by
  intro d
  induction d with
  | zero => intro i; exact Nat.le_refl 0
  | succ d ih =>
    intro i
    have := ih (i + 1)
    unfold zf_cnt
    split <;> omega
theorem zf_cnt_cg {q q' : Nat → Bool} : ∀ d i, (∀ j, i ≤ j → j < i + d → q j = q' j) → zf_cnt q d i = zf_cnt q' d i := by
  intro d
  induction d with
  | zero => intro i _; rfl
  | succ d ih =>
    intro i h
    unfold zf_cnt
    rw [h i (by omega) (by omega), ih (i + 1) (fun j h1 h2 => h j (by omega) (by omega))]
theorem zf_cnt_add (q : Nat → Bool) : ∀ a b i, zf_cnt q (a + b) i = zf_cnt q a i + zf_cnt q b (i + a) := by
  intro a
  induction a with
  | zero => intro b i; rw [Nat.zero_add]; show _ = 0 + _; rw [Nat.zero_add]; rfl
  | succ a ih =>
    intro b i
    rw [show a + 1 + b = (a + b) + 1 by omega]
    show (if q i = true then 1 else 0) + zf_cnt q (a + b) (i + 1) = ((if q i = true then 1 else 0) + zf_cnt q a (i + 1)) + _
    rw [ih b (i + 1), show i + 1 + a = i + (a + 1) by omega]
    omega
theorem zf_cnt_mono (q : Nat → Bool) {a b : Nat} (h : a ≤ b) (i : Nat) : zf_cnt q a i ≤ zf_cnt q b i := by
  obtain ⟨c, rfl⟩ : ∃ c, b = a + c := ⟨b - a, by omega⟩
  rw [zf_cnt_add]
  omega
theorem zf_cnt_one (q : Nat → Bool) (i : Nat) : zf_cnt q 1 i = if q i = true then 1 else 0 := by
  show (if q i = true then 1 else 0) + 0 = _
  omega
theorem zf_last_le (q : Nat → Bool) : ∀ i, zf_last q i ≤ i := by
  intro i
  induction i with
  | zero => exact Nat.le_refl 0
  | succ i ih => unfold zf_last; split <;> omega
theorem zf_last_cg {q q' : Nat → Bool} : ∀ i, (∀ j, j ≤ i → q j = q' j) → zf_last q i = zf_last q' i := by
  intro i
  induction i with
  | zero => intro _; rfl
  | succ i ih =>
    intro h
    unfold zf_last
    rw [h (i + 1) (by omega), ih (fun j hj => h j (by omega))]
theorem zf_last_q (q : Nat → Bool) : ∀ i, zf_last q i ≠ 0 → q (zf_last q i) = true := by
  intro i
  induction i with
  | zero => intro h; exact absurd rfl h
  | succ i ih =>
    unfold zf_last
    by_cases h : q (i + 1) = true
    · rw [if_pos h]; exact fun _ => h
    · rw [if_neg h]; exact ih
theorem zf_ff_ge (q : Nat → Bool) : ∀ d i, i ≤ zf_ff q d i ∧ zf_ff q d i ≤ i + d := by
  intro d
  induction d with
  | zero => intro i; exact ⟨Nat.le_refl i, Nat.le_refl i⟩
  | succ d ih =>
    intro i
    have := ih (i + 1)
    unfold zf_ff
    split <;> omega
theorem zf_ff_q (q : Nat → Bool) : ∀ d i, zf_ff q d i < i + d → q (zf_ff q d i) = true := by
  intro d
  induction d with
  | zero => intro i h; exact absurd h (Nat.lt_irrefl i)
  | succ d ih =>
    intro i h
    unfold zf_ff at h ⊢
    by_cases hq : q i = true
    · rw [if_pos hq]; exact hq
    · rw [if_neg hq] at h ⊢; exact ih (i + 1) (by omega)
theorem zf_ff_cg {q q' : Nat → Bool} : ∀ d i, (∀ j, i ≤ j → j < i + d → q j = q' j) → zf_ff q d i = zf_ff q' d i := by
  intro d
  induction d with
  | zero => intro i _; rfl
  | succ d ih =>
    intro i h
    unfold zf_ff
    rw [h i (by omega) (by omega), ih (i + 1) (fun j h1 h2 => h j (by omega) (by omega))]
theorem zf_ex_iff (q : Nat → Bool) : ∀ d i, zf_ex q d i = true ↔ ∃ j, i ≤ j ∧ j < i + d ∧ q j = true := by
  intro d
  induction d with
  | zero =>
    intro i
    exact ⟨fun h => absurd (show false = true from h) (by decide), fun ⟨j, h1, h2, _⟩ => absurd h2 (by omega)⟩
  | succ d ih =>
    intro i
    unfold zf_ex
    by_cases hq : q i = true
    · rw [if_pos hq]
      exact ⟨fun _ => ⟨i, by omega, by omega, hq⟩, fun _ => rfl⟩
    · rw [if_neg hq, ih (i + 1)]
      constructor
      · rintro ⟨j, h1, h2, h3⟩
        exact ⟨j, by omega, by omega, h3⟩
      · rintro ⟨j, h1, h2, h3⟩
        rcases Nat.lt_or_ge i j with h | h
        · exact ⟨j, by omega, by omega, h3⟩
        · have : j = i := by omega
          subst this
          exact absurd h3 hq
theorem zf_ex_f (q : Nat → Bool) (d i : Nat) : zf_ex q d i = false ↔ ∀ j, i ≤ j → j < i + d → q j = false := by
  constructor
  · intro h j h1 h2
    cases hq : q j with
    | false => rfl
    | true =>
      have := (zf_ex_iff q d i).mpr ⟨j, h1, h2, hq⟩
      rw [h] at this
      exact absurd this (by decide)
  · intro h
    cases hx : zf_ex q d i with
    | false => rfl
    | true =>
      obtain ⟨j, h1, h2, h3⟩ := (zf_ex_iff q d i).mp hx
      rw [h j h1 h2] at h3
      exact absurd h3 (by decide)
theorem zf_mx_ge (w : Nat → Nat) : ∀ d i b, b ≤ zf_mx w d i b ∧ ∀ j, i ≤ j → j < i + d → w j ≤ zf_mx w d i b := by
  intro d
  induction d with
  | zero => intro i b; exact ⟨Nat.le_refl b, fun j h1 h2 => absurd h2 (by omega)⟩
  | succ d ih =>
    intro i b
    unfold zf_mx
    have h := ih (i + 1) (if w i ≤ b then b else w i)
    have hb : b ≤ (if w i ≤ b then b else w i) ∧ w i ≤ (if w i ≤ b then b else w i) := by split <;> omega
    refine ⟨Nat.le_trans hb.1 h.1, fun j h1 h2 => ?_⟩
    rcases Nat.lt_or_ge i j with h3 | h3
    · exact h.2 j (by omega) (by omega)
    · have : j = i := by omega
      subst this
      exact Nat.le_trans hb.2 h.1
theorem zf_mx_in (w : Nat → Nat) : ∀ d i b, zf_mx w d i b = b ∨ ∃ j, i ≤ j ∧ j < i + d ∧ zf_mx w d i b = w j := by
  intro d
  induction d with
  | zero => intro i b; exact Or.inl rfl
  | succ d ih =>
    intro i b
    unfold zf_mx
    rcases ih (i + 1) (if w i ≤ b then b else w i) with h | ⟨j, h1, h2, h3⟩
    · rw [h]
      by_cases hw : w i ≤ b
      · rw [if_pos hw]; exact Or.inl rfl
      · rw [if_neg hw]; exact Or.inr ⟨i, by omega, by omega, rfl⟩
    · exact Or.inr ⟨j, by omega, by omega, h3⟩
def zf_cl (v : Int32) (lo hi : Nat) : Nat := if nI lo ≤ v then (if v ≤ nI hi then v.toNatClampNeg else hi) else lo
theorem zf_cl_in {v : Int32} {lo hi : Nat} (h : lo ≤ hi) (hh : hi < 2 ^ 31) : lo ≤ zf_cl v lo hi ∧ zf_cl v lo hi ≤ hi := by
  unfold zf_cl
  by_cases h1 : nI lo ≤ v
  · rw [if_pos h1]
    by_cases h2 : v ≤ nI hi
    · rw [if_pos h2]
      have h0 : ¬ v < 0 := by
        intro h3
        exact absurd (Int32.lt_of_le_of_lt h1 h3) (nI_pos (by omega))
      obtain ⟨j, hj, rfl⟩ := nI_of h0
      rw [nI_clamp hj]
      rw [nI_leI (by omega) hj] at h1
      rw [nI_leI hj hh] at h2
      exact ⟨h1, h2⟩
    · rw [if_neg h2]; exact ⟨h, Nat.le_refl _⟩
  · rw [if_neg h1]; exact ⟨Nat.le_refl _, h⟩
theorem zf_cl_wp {post : Int32 → Prop} {v : Int32} {lo hi : Nat} (h : lo ≤ hi) (hh : hi < 2 ^ 31) (hp : post (nI (zf_cl v lo hi))) : (nI lo ≤ v → ((v ≤ nI hi → post v) ∧ (¬ v ≤ nI hi → post (nI hi)))) ∧ (¬ nI lo ≤ v → post (nI lo)) := by
  unfold zf_cl at hp
  refine ⟨fun h1 => ⟨fun h2 => ?_, fun h2 => ?_⟩, fun h1 => ?_⟩
  · rw [if_pos h1, if_pos h2] at hp
    have h0 : ¬ v < 0 := by
      intro h3
      exact absurd (Int32.lt_of_le_of_lt h1 h3) (nI_pos (by omega))
    obtain ⟨j, hj, rfl⟩ := nI_of h0
    rw [nI_clamp hj] at hp
    exact hp
  · rw [if_pos h1, if_neg h2] at hp; exact hp
  · rw [if_neg h1] at hp; exact hp
/-! vectors of four labels -/
def zv_cp (f : Nat → Nat) (a b k : Nat) : Nat → Nat := fun j => if j / 4 = b ∧ j % 4 < k then f (a * 4 + j % 4) else f j
def zv_mg (f : Nat → Nat) (a b c k : Nat) : Nat → Nat := fun j => if j / 4 = c ∧ j % 4 < k then (if f (a * 4 + j % 4) ≤ f (b * 4 + j % 4) then f (b * 4 + j % 4) else f (a * 4 + j % 4)) else f j
def zv_cl (f : Nat → Nat) (a k : Nat) : Nat → Nat := fun j => if j / 4 = a ∧ j % 4 < k then 0 else f j
theorem zv_cp0 (f : Nat → Nat) (a b : Nat) : zv_cp f a b 0 = f := by
  funext j; exact if_neg (fun h => absurd h.2 (Nat.not_lt_zero _))
theorem zv_mg0 (f : Nat → Nat) (a b c : Nat) : zv_mg f a b c 0 = f := by
  funext j; exact if_neg (fun h => absurd h.2 (Nat.not_lt_zero _))
theorem zv_cl0 (f : Nat → Nat) (a : Nat) : zv_cl f a 0 = f := by
  funext j; exact if_neg (fun h => absurd h.2 (Nat.not_lt_zero _))
theorem zv_cps (f : Nat → Nat) {a b x : Nat} (hab : a ≠ b) (hx : x < 4) : zc_u (zv_cp f a b x) (b * 4 + x) (zv_cp f a b x (a * 4 + x)) = zv_cp f a b (x + 1) := by
  funext j
  unfold zc_u zv_cp
  rw [if_neg (show ¬ ((a * 4 + x) / 4 = b ∧ (a * 4 + x) % 4 < x) by omega)]
  by_cases h : j = b * 4 + x
  · rw [if_pos h, if_pos (show j / 4 = b ∧ j % 4 < x + 1 by omega), show j % 4 = x by omega]
  · rw [if_neg h]
    by_cases h2 : j / 4 = b ∧ j % 4 < x
    · rw [if_pos h2, if_pos (by omega)]
    · rw [if_neg h2, if_neg (by omega)]
theorem zv_cls (f : Nat → Nat) {a x : Nat} (hx : x < 4) : zc_u (zv_cl f a x) (a * 4 + x) 0 = zv_cl f a (x + 1) := by
  funext j
  unfold zc_u zv_cl
  by_cases h : j = a * 4 + x
  · rw [if_pos h, if_pos (show j / 4 = a ∧ j % 4 < x + 1 by omega)]
  · rw [if_neg h]
    by_cases h2 : j / 4 = a ∧ j % 4 < x
    · rw [if_pos h2, if_pos (by omega)]
    · rw [if_neg h2, if_neg (by omega)]
theorem zv_mgr (f : Nat → Nat) {a b c x e : Nat} (he : e ≠ c) (hx : x < 4) : zv_mg f a b c x (e * 4 + x) = f (e * 4 + x) := if_neg (by omega)
theorem zv_mgs (f : Nat → Nat) {a b c x : Nat} (hac : a ≠ c) (hbc : b ≠ c) (hx : x < 4) : zc_u (zv_mg f a b c x) (c * 4 + x) (if f (a * 4 + x) ≤ f (b * 4 + x) then f (b * 4 + x) else f (a * 4 + x)) = zv_mg f a b c (x + 1) := by
  funext j
  unfold zc_u zv_mg
  by_cases h : j = c * 4 + x
  · rw [if_pos h, if_pos (show j / 4 = c ∧ j % 4 < x + 1 by omega), show j % 4 = x by omega]
  · rw [if_neg h]
    by_cases h2 : j / 4 = c ∧ j % 4 < x
    · rw [if_pos h2, if_pos (show j / 4 = c ∧ j % 4 < x + 1 by omega)]
    · rw [if_neg h2, if_neg (show ¬ (j / 4 = c ∧ j % 4 < x + 1) by omega)]
theorem zv_cp_i (f : Nat → Nat) (a b x : Nat) (hx : x < 4) : zv_cp f a b 4 (b * 4 + x) = f (a * 4 + x) := by
  unfold zv_cp
  rw [if_pos (by omega), show (b * 4 + x) % 4 = x by omega]
theorem zv_cp_o (f : Nat → Nat) {a b c x : Nat} (hx : x < 4) (h : c ≠ b) : zv_cp f a b 4 (c * 4 + x) = f (c * 4 + x) := if_neg (by omega)
theorem zv_cl_i (f : Nat → Nat) (a x : Nat) (hx : x < 4) : zv_cl f a 4 (a * 4 + x) = 0 := if_pos (by omega)
theorem zv_cl_o (f : Nat → Nat) {a c x : Nat} (hx : x < 4) (h : c ≠ a) : zv_cl f a 4 (c * 4 + x) = f (c * 4 + x) := if_neg (by omega)
theorem zv_mg_i (f : Nat → Nat) (a b c x : Nat) (hx : x < 4) : zv_mg f a b c 4 (c * 4 + x) = if f (a * 4 + x) ≤ f (b * 4 + x) then f (b * 4 + x) else f (a * 4 + x) := by
  unfold zv_mg
  rw [if_pos (by omega), show (c * 4 + x) % 4 = x by omega]
theorem zv_mg_o (f : Nat → Nat) {a b c e x : Nat} (hx : x < 4) (h : e ≠ c) : zv_mg f a b c 4 (e * 4 + x) = f (e * 4 + x) := if_neg (by omega)
theorem zv_cp_b {f : Nat → Nat} {M : Nat} (h : ∀ j, f j ≤ M) (a b k : Nat) : ∀ j, zv_cp f a b k j ≤ M := by
  intro j; unfold zv_cp; split <;> exact h _
theorem zv_cl_b {f : Nat → Nat} {M : Nat} (h : ∀ j, f j ≤ M) (a k : Nat) : ∀ j, zv_cl f a k j ≤ M := by
  intro j; unfold zv_cl; split
  · exact Nat.zero_le _
  · exact h _
theorem zv_mg_b {f : Nat → Nat} {M : Nat} (h : ∀ j, f j ≤ M) (a b c k : Nat) : ∀ j, zv_mg f a b c k j ≤ M := by
  intro j; unfold zv_mg; split
  · split <;> exact h _
  · exact h _
theorem zn_ub {f : Nat → Nat} {M : Nat} (h : ∀ j, f j ≤ M) {k v : Nat} (hv : v ≤ M) : ∀ j, zc_u f k v j ≤ M := by
  intro j; unfold zc_u; split
  · exact hv
  · exact h _
end
section
/-! the component's small methods and loops -/
theorem zf_cnt_s (q : Nat → Bool) (d i : Nat) : zf_cnt q (d + 1) i = (if q i = true then 1 else 0) + zf_cnt q d (i + 1) := rfl
theorem zf_ff_s (q : Nat → Bool) (d i : Nat) : zf_ff q (d + 1) i = if q i = true then i else zf_ff q d (i + 1) := rfl
theorem zf_ex_s (q : Nat → Bool) (d i : Nat) : zf_ex q (d + 1) i = if q i = true then true else zf_ex q d (i + 1) := rfl
theorem zf_last_s (q : Nat → Bool) (i : Nat) : zf_last q (i + 1) = if q (i + 1) = true then i + 1 else zf_last q i := rfl
theorem zf_mx_s (w : Nat → Nat) (d i b : Nat) : zf_mx w (d + 1) i b = zf_mx w d (i + 1) (if w i ≤ b then b else w i) := rfl
section
variable {n sc lm sv rl bg : Nat} {xup xs : Nat → Bool} {ix ic st xo xp xt en xk xl xm : Nat → Nat} {un rp dc xv xrs xrr xra xss sr sa op ol ov : Nat → Int32}
theorem zx_clamp {post : Int32 → Prop} {v : Int32} {lo hi : Nat} (h : lo ≤ hi) (hh : hi < 2 ^ 31) (hp : post (nI (zf_cl v lo hi))) : wpX_clamp post (nI n, nI sc, nI lm, nI sv, nI rl, nI bg, zc_B xup, zc_N ix, zc_N ic, zc_N st, un, rp, dc, xv, zc_B xs, zc_N xo, xrs, xrr, xra, zc_O xp, zc_O xt, xss, sr, sa, zc_N en, zc_N xk, zc_N xl, zc_E xm, op, ol, ov) v (nI lo) (nI hi) := zf_cl_wp h hh hp
theorem zx_place_l {post : Int32 → SX → Prop} {t : Nat} {y z w : Int32} (hsc : sc ≤ 12) (hxt : ∀ j, xt j ≤ 4) : ∀ d x, x + d = sc → (zf_ff (fun s => decide (xt s = 0)) d x = sc → post (-4) (nI n, nI sc, nI lm, nI sv, nI rl, nI bg, zc_B xup, zc_N ix, zc_N ic, zc_N st, un, rp, dc, xv, zc_B xs, zc_N xo, xrs, xrr, xra, zc_O xp, zc_O xt, xss, sr, sa, zc_N en, zc_N xk, zc_N xl, zc_E xm, op, ol, ov)) → (∀ s, s = zf_ff (fun s => decide (xt s = 0)) d x → s < sc → post (nI s) (nI n, nI sc, nI lm, nI sv, nI rl, nI bg, zc_B xup, zc_N ix, zc_N ic, zc_N st, un, rp, dc, xv, zc_B xs, zc_N xo, xrs, xrr, xra, zc_O xp, zc_O (zc_u xt s (t + 1)), (upd xss s y), (upd sr s z), (upd sa s w), zc_N en, zc_N xk, zc_N xl, zc_E xm, op, ol, ov)) → wX_place_3 post (nI t) y z w (nI n) (nI sc) (nI lm) (nI sv) (nI rl) (nI bg) (zc_B xup) (zc_N ix) (zc_N ic) (zc_N st) un rp dc xv (zc_B xs) (zc_N xo) xrs xrr xra (zc_O xp) (zc_O xt) xss sr sa (zc_N en) (zc_N xk) (zc_N xl) (zc_E xm) op ol ov (d + 1) (nI x) := by
  intro d
  induction d with
  | zero =>
    intro x h h1 h2
    obtain rfl : x = sc := by omega
    exact br_t (nI_le (Nat.le_refl _) (by omega)) (h1 rfl)
  | succ d ih =>
    intro x h h1 h2
    have hb := hxt x
    by_cases hq : xt x = 0
    · have e : zf_ff (fun s => decide (xt s = 0)) (d + 1) x = x := by rw [zf_ff_s, if_pos (decide_eq_true hq)]
      rw [wX_place_3]
      simp (disch := omega) only [zn_k4, zn_k8, zn_k16, zn_k32, zn_m16, zn_a64, zn_a128, nI_add, nI_1, nI_clamp, vp_in_nI, true_and, and_true, forall_eq, zn_rN, zn_rB, zn_rO, zn_rE, zn_vb0, zn_vb1, zn_b1, zn_b0, zn_d1, zn_d0, zn_e1, zn_e0, zn_wN, zn_wB1, zn_wB0, zn_wO, zn_wOd, zn_wO0, zn_wE, zn_wEe, zn_wE0, zn_leT, zn_leF, zn_ltT, zn_ltF, zn_eqF, zn_eqT, zn_lt0, zn_0le, zn_d2a, zn_d2b, zn_e1a, zn_e1b, zn_10, zn_00, zn_sh4, zn_an15, true_imp_iff, false_imp_iff, imp_true_iff, not_true_eq_false, not_false_eq_true, zn_gT4, zn_gF4, zn_gT8, zn_gF8, zn_gT12, zn_gF12, zn_gT48, zn_gF48, zn_gT124, zn_gF124, zn_gT128, zn_gF128, zn_gT560, zn_gF560, zn_lT7, zn_lF7, zn_lT120, zn_lF120, zn_qT7, zn_qF7, zn_qT120, zn_qF120, zn_qT0, zn_qF0, zn_qT1, zn_qF1, zn_hT0, zn_hF0, zn_hT7, zn_hF7, zn_sb, pk_us, zn_us, hq]
      exact h2 x e.symm (by omega)
    · have e : zf_ff (fun s => decide (xt s = 0)) (d + 1) x = zf_ff (fun s => decide (xt s = 0)) d (x + 1) := by rw [zf_ff_s, if_neg (by rw [decide_eq_true_eq]; exact hq)]
      rw [e] at h1 h2
      obtain ⟨c, hc⟩ : ∃ c, xt x = c + 1 := ⟨xt x - 1, by omega⟩
      rw [wX_place_3]
      simp (disch := omega) only [zn_k4, zn_k8, zn_k16, zn_k32, zn_m16, zn_a64, zn_a128, nI_add, nI_1, nI_clamp, vp_in_nI, true_and, and_true, forall_eq, zn_rN, zn_rB, zn_rO, zn_rE, zn_vb0, zn_vb1, zn_b1, zn_b0, zn_d1, zn_d0, zn_e1, zn_e0, zn_wN, zn_wB1, zn_wB0, zn_wO, zn_wOd, zn_wO0, zn_wE, zn_wEe, zn_wE0, zn_leT, zn_leF, zn_ltT, zn_ltF, zn_eqF, zn_eqT, zn_lt0, zn_0le, zn_d2a, zn_d2b, zn_e1a, zn_e1b, zn_10, zn_00, zn_sh4, zn_an15, true_imp_iff, false_imp_iff, imp_true_iff, not_true_eq_false, not_false_eq_true, zn_gT4, zn_gF4, zn_gT8, zn_gF8, zn_gT12, zn_gF12, zn_gT48, zn_gF48, zn_gT124, zn_gF124, zn_gT128, zn_gF128, zn_gT560, zn_gF560, zn_lT7, zn_lF7, zn_lT120, zn_lF120, zn_qT7, zn_qF7, zn_qT120, zn_qF120, zn_qT0, zn_qF0, zn_qT1, zn_qF1, zn_hT0, zn_hF0, zn_hT7, zn_hF7, zn_sb, pk_us, zn_us, hc]
      exact ih (x + 1) (by omega) h1 h2
theorem zx_place {post : Int32 → SX → Prop} {t : Nat} {y z w : Int32} (hsc : sc ≤ 12) (hxt : ∀ j, xt j ≤ 4) (h1 : zf_ff (fun s => decide (xt s = 0)) sc 0 = sc → post (-4) (nI n, nI sc, nI lm, nI sv, nI rl, nI bg, zc_B xup, zc_N ix, zc_N ic, zc_N st, un, rp, dc, xv, zc_B xs, zc_N xo, xrs, xrr, xra, zc_O xp, zc_O xt, xss, sr, sa, zc_N en, zc_N xk, zc_N xl, zc_E xm, op, ol, ov)) (h2 : ∀ s, s = zf_ff (fun s => decide (xt s = 0)) sc 0 → s < sc → post (nI s) (nI n, nI sc, nI lm, nI sv, nI rl, nI bg, zc_B xup, zc_N ix, zc_N ic, zc_N st, un, rp, dc, xv, zc_B xs, zc_N xo, xrs, xrr, xra, zc_O xp, zc_O (zc_u xt s (t + 1)), (upd xss s y), (upd sr s z), (upd sa s w), zc_N en, zc_N xk, zc_N xl, zc_E xm, op, ol, ov)) : wpX_place post (nI n, nI sc, nI lm, nI sv, nI rl, nI bg, zc_B xup, zc_N ix, zc_N ic, zc_N st, un, rp, dc, xv, zc_B xs, zc_N xo, xrs, xrr, xra, zc_O xp, zc_O xt, xss, sr, sa, zc_N en, zc_N xk, zc_N xl, zc_E xm, op, ol, ov) (nI t) y z w := ⟨sc + 1, zx_place_l hsc hxt sc 0 (by omega) h1 h2⟩
theorem zx_clear_l {post : SX → Prop} {a : Nat} (ha : a < 140) (hp : post (nI n, nI sc, nI lm, nI sv, nI rl, nI bg, zc_B xup, zc_N ix, zc_N ic, zc_N st, un, rp, dc, xv, zc_B xs, zc_N xo, xrs, xrr, xra, zc_O (zv_cl xp a 4), zc_O xt, xss, sr, sa, zc_N en, zc_N xk, zc_N xl, zc_E xm, op, ol, ov)) : ∀ d x, x + d = 4 → wX_clearVector_2 post (nI a) (nI n) (nI sc) (nI lm) (nI sv) (nI rl) (nI bg) (d + 1) (nI x) (zc_B xup) (zc_N ix) (zc_N ic) (zc_N st) un rp dc xv (zc_B xs) (zc_N xo) xrs xrr xra (zc_O (zv_cl xp a x)) (zc_O xt) xss sr sa (zc_N en) (zc_N xk) (zc_N xl) (zc_E xm) op ol ov := by
  intro d
  induction d with
  | zero =>
    intro x h
    obtain rfl : x = 4 := by omega
    exact br_t (by decide) hp
  | succ d ih =>
    intro x h
    rw [wX_clearVector_2]
    simp (disch := omega) only [zn_k4, zn_k8, zn_k16, zn_k32, zn_m16, zn_a64, zn_a128, nI_add, nI_1, nI_clamp, vp_in_nI, true_and, and_true, forall_eq, zn_rN, zn_rB, zn_rO, zn_rE, zn_vb0, zn_vb1, zn_b1, zn_b0, zn_d1, zn_d0, zn_e1, zn_e0, zn_wN, zn_wB1, zn_wB0, zn_wO, zn_wOd, zn_wO0, zn_wE, zn_wEe, zn_wE0, zn_leT, zn_leF, zn_ltT, zn_ltF, zn_eqF, zn_eqT, zn_lt0, zn_0le, zn_d2a, zn_d2b, zn_e1a, zn_e1b, zn_10, zn_00, zn_sh4, zn_an15, true_imp_iff, false_imp_iff, imp_true_iff, not_true_eq_false, not_false_eq_true, zn_gT4, zn_gF4, zn_gT8, zn_gF8, zn_gT12, zn_gF12, zn_gT48, zn_gF48, zn_gT124, zn_gF124, zn_gT128, zn_gF128, zn_gT560, zn_gF560, zn_lT7, zn_lF7, zn_lT120, zn_lF120, zn_qT7, zn_qF7, zn_qT120, zn_qF120, zn_qT0, zn_qF0, zn_qT1, zn_qF1, zn_hT0, zn_hF0, zn_hT7, zn_hF7, zn_sb, pk_us, zn_us, zv_cls xp (a := a) (x := x) (by omega)]
    exact ih (x + 1) (by omega)
theorem zx_clear {post : SX → Prop} {a : Nat} (ha : a < 140) (hp : post (nI n, nI sc, nI lm, nI sv, nI rl, nI bg, zc_B xup, zc_N ix, zc_N ic, zc_N st, un, rp, dc, xv, zc_B xs, zc_N xo, xrs, xrr, xra, zc_O (zv_cl xp a 4), zc_O xt, xss, sr, sa, zc_N en, zc_N xk, zc_N xl, zc_E xm, op, ol, ov)) : wpX_clearVector post (nI n, nI sc, nI lm, nI sv, nI rl, nI bg, zc_B xup, zc_N ix, zc_N ic, zc_N st, un, rp, dc, xv, zc_B xs, zc_N xo, xrs, xrr, xra, zc_O xp, zc_O xt, xss, sr, sa, zc_N en, zc_N xk, zc_N xl, zc_E xm, op, ol, ov) (nI a) := by
  refine ⟨5, ?_⟩
  have h := zx_clear_l ha hp 4 0 (by omega)
  rw [zv_cl0] at h
  exact h
theorem zx_copy_l {post : SX → Prop} {a b : Nat} (ha : a < 140) (hb : b < 140) (hab : a ≠ b) (hp : post (nI n, nI sc, nI lm, nI sv, nI rl, nI bg, zc_B xup, zc_N ix, zc_N ic, zc_N st, un, rp, dc, xv, zc_B xs, zc_N xo, xrs, xrr, xra, zc_O (zv_cp xp a b 4), zc_O xt, xss, sr, sa, zc_N en, zc_N xk, zc_N xl, zc_E xm, op, ol, ov)) : ∀ d x, x + d = 4 → wX_copyVector_2 post (nI a) (nI b) (nI n) (nI sc) (nI lm) (nI sv) (nI rl) (nI bg) (d + 1) (nI x) (zc_B xup) (zc_N ix) (zc_N ic) (zc_N st) un rp dc xv (zc_B xs) (zc_N xo) xrs xrr xra (zc_O (zv_cp xp a b x)) (zc_O xt) xss sr sa (zc_N en) (zc_N xk) (zc_N xl) (zc_E xm) op ol ov := by
  intro d
  induction d with
  | zero =>
    intro x h
    obtain rfl : x = 4 := by omega
    exact br_t (by decide) hp
  | succ d ih =>
    intro x h
    rw [wX_copyVector_2]
    simp (disch := omega) only [zn_k4, zn_k8, zn_k16, zn_k32, zn_m16, zn_a64, zn_a128, nI_add, nI_1, nI_clamp, vp_in_nI, true_and, and_true, forall_eq, zn_rN, zn_rB, zn_rO, zn_rE, zn_vb0, zn_vb1, zn_b1, zn_b0, zn_d1, zn_d0, zn_e1, zn_e0, zn_wN, zn_wB1, zn_wB0, zn_wO, zn_wOd, zn_wO0, zn_wE, zn_wEe, zn_wE0, zn_leT, zn_leF, zn_ltT, zn_ltF, zn_eqF, zn_eqT, zn_lt0, zn_0le, zn_d2a, zn_d2b, zn_e1a, zn_e1b, zn_10, zn_00, zn_sh4, zn_an15, true_imp_iff, false_imp_iff, imp_true_iff, not_true_eq_false, not_false_eq_true, zn_gT4, zn_gF4, zn_gT8, zn_gF8, zn_gT12, zn_gF12, zn_gT48, zn_gF48, zn_gT124, zn_gF124, zn_gT128, zn_gF128, zn_gT560, zn_gF560, zn_lT7, zn_lF7, zn_lT120, zn_lF120, zn_qT7, zn_qF7, zn_qT120, zn_qF120, zn_qT0, zn_qF0, zn_qT1, zn_qF1, zn_hT0, zn_hF0, zn_hT7, zn_hF7, zn_sb, pk_us, zn_us, zv_cps xp hab (x := x) (by omega)]
    exact ih (x + 1) (by omega)
theorem zx_copy {post : SX → Prop} {a b : Nat} (ha : a < 140) (hb : b < 140) (hab : a ≠ b) (hp : post (nI n, nI sc, nI lm, nI sv, nI rl, nI bg, zc_B xup, zc_N ix, zc_N ic, zc_N st, un, rp, dc, xv, zc_B xs, zc_N xo, xrs, xrr, xra, zc_O (zv_cp xp a b 4), zc_O xt, xss, sr, sa, zc_N en, zc_N xk, zc_N xl, zc_E xm, op, ol, ov)) : wpX_copyVector post (nI n, nI sc, nI lm, nI sv, nI rl, nI bg, zc_B xup, zc_N ix, zc_N ic, zc_N st, un, rp, dc, xv, zc_B xs, zc_N xo, xrs, xrr, xra, zc_O xp, zc_O xt, xss, sr, sa, zc_N en, zc_N xk, zc_N xl, zc_E xm, op, ol, ov) (nI a) (nI b) := by
  refine ⟨5, ?_⟩
  have h := zx_copy_l ha hb hab hp 4 0 (by omega)
  rw [zv_cp0] at h
  exact h
theorem zx_merge_l {post : SX → Prop} {a b c : Nat} (ha : a < 140) (hb : b < 140) (hc : c < 140) (hac : a ≠ c) (hbc : b ≠ c) (hxp : ∀ j, xp j ≤ 128) (hp : post (nI n, nI sc, nI lm, nI sv, nI rl, nI bg, zc_B xup, zc_N ix, zc_N ic, zc_N st, un, rp, dc, xv, zc_B xs, zc_N xo, xrs, xrr, xra, zc_O (zv_mg xp a b c 4), zc_O xt, xss, sr, sa, zc_N en, zc_N xk, zc_N xl, zc_E xm, op, ol, ov)) : ∀ d x, x + d = 4 → wX_mergeVectors_3 post (nI a) (nI b) (nI c) (nI n) (nI sc) (nI lm) (nI sv) (nI rl) (nI bg) (d + 1) (nI x) (zc_B xup) (zc_N ix) (zc_N ic) (zc_N st) un rp dc xv (zc_B xs) (zc_N xo) xrs xrr xra (zc_O (zv_mg xp a b c x)) (zc_O xt) xss sr sa (zc_N en) (zc_N xk) (zc_N xl) (zc_E xm) op ol ov := by
  intro d
  induction d with
  | zero =>
    intro x h
    obtain rfl : x = 4 := by omega
    exact br_t (by decide) hp
  | succ d ih =>
    intro x h
    have h1 := hxp (a * 4 + x)
    have h2 := hxp (b * 4 + x)
    have hd := zn_dle (xp (a * 4 + x)) (xp (b * 4 + x)) (by omega) (by omega)
    have hs := zv_mgs xp hac hbc (x := x) (by omega)
    have hm := ih (x + 1) (by omega)
    by_cases hle : xp (a * 4 + x) ≤ xp (b * 4 + x)
    · rw [if_pos hle] at hs
      rw [wX_mergeVectors_3]
      simp (disch := omega) only [zn_k4, zn_k8, zn_k16, zn_k32, zn_m16, zn_a64, zn_a128, nI_add, nI_1, nI_clamp, vp_in_nI, true_and, and_true, forall_eq, zn_rN, zn_rB, zn_rO, zn_rE, zn_vb0, zn_vb1, zn_b1, zn_b0, zn_d1, zn_d0, zn_e1, zn_e0, zn_wN, zn_wB1, zn_wB0, zn_wO, zn_wOd, zn_wO0, zn_wE, zn_wEe, zn_wE0, zn_leT, zn_leF, zn_ltT, zn_ltF, zn_eqF, zn_eqT, zn_lt0, zn_0le, zn_d2a, zn_d2b, zn_e1a, zn_e1b, zn_10, zn_00, zn_sh4, zn_an15, true_imp_iff, false_imp_iff, imp_true_iff, not_true_eq_false, not_false_eq_true, zn_gT4, zn_gF4, zn_gT8, zn_gF8, zn_gT12, zn_gF12, zn_gT48, zn_gF48, zn_gT124, zn_gF124, zn_gT128, zn_gF128, zn_gT560, zn_gF560, zn_lT7, zn_lF7, zn_lT120, zn_lF120, zn_qT7, zn_qF7, zn_qT120, zn_qF120, zn_qT0, zn_qF0, zn_qT1, zn_qF1, zn_hT0, zn_hF0, zn_hT7, zn_hF7, zn_sb, pk_us, zn_us, zv_mgr xp hac (x := x) (by omega : x < 4), zv_mgr xp hbc (x := x) (by omega : x < 4), hd, hle, hs]
      exact hm
    · rw [if_neg hle] at hs
      rw [wX_mergeVectors_3]
      simp (disch := omega) only [zn_k4, zn_k8, zn_k16, zn_k32, zn_m16, zn_a64, zn_a128, nI_add, nI_1, nI_clamp, vp_in_nI, true_and, and_true, forall_eq, zn_rN, zn_rB, zn_rO, zn_rE, zn_vb0, zn_vb1, zn_b1, zn_b0, zn_d1, zn_d0, zn_e1, zn_e0, zn_wN, zn_wB1, zn_wB0, zn_wO, zn_wOd, zn_wO0, zn_wE, zn_wEe, zn_wE0, zn_leT, zn_leF, zn_ltT, zn_ltF, zn_eqF, zn_eqT, zn_lt0, zn_0le, zn_d2a, zn_d2b, zn_e1a, zn_e1b, zn_10, zn_00, zn_sh4, zn_an15, true_imp_iff, false_imp_iff, imp_true_iff, not_true_eq_false, not_false_eq_true, zn_gT4, zn_gF4, zn_gT8, zn_gF8, zn_gT12, zn_gF12, zn_gT48, zn_gF48, zn_gT124, zn_gF124, zn_gT128, zn_gF128, zn_gT560, zn_gF560, zn_lT7, zn_lF7, zn_lT120, zn_lF120, zn_qT7, zn_qF7, zn_qT120, zn_qF120, zn_qT0, zn_qF0, zn_qT1, zn_qF1, zn_hT0, zn_hF0, zn_hT7, zn_hF7, zn_sb, pk_us, zn_us, zv_mgr xp hac (x := x) (by omega : x < 4), zv_mgr xp hbc (x := x) (by omega : x < 4), hd, hle, hs]
      exact hm
theorem zx_merge {post : SX → Prop} {a b c : Nat} (ha : a < 140) (hb : b < 140) (hc : c < 140) (hac : a ≠ c) (hbc : b ≠ c) (hxp : ∀ j, xp j ≤ 128) (hp : post (nI n, nI sc, nI lm, nI sv, nI rl, nI bg, zc_B xup, zc_N ix, zc_N ic, zc_N st, un, rp, dc, xv, zc_B xs, zc_N xo, xrs, xrr, xra, zc_O (zv_mg xp a b c 4), zc_O xt, xss, sr, sa, zc_N en, zc_N xk, zc_N xl, zc_E xm, op, ol, ov)) : wpX_mergeVectors post (nI n, nI sc, nI lm, nI sv, nI rl, nI bg, zc_B xup, zc_N ix, zc_N ic, zc_N st, un, rp, dc, xv, zc_B xs, zc_N xo, xrs, xrr, xra, zc_O xp, zc_O xt, xss, sr, sa, zc_N en, zc_N xk, zc_N xl, zc_E xm, op, ol, ov) (nI a) (nI b) (nI c) := by
  refine ⟨5, ?_⟩
  have h := zx_merge_l ha hb hc hac hbc hxp hp 4 0 (by omega)
  rw [zv_mg0] at h
  exact h
end
/-- label x of vector v is lost for r -/
def zq_ol (xp xl : Nat → Nat) (r v x : Nat) : Bool := decide (xp (v * 4 + x) ≠ 0 ∧ xl ((r * 4 + x) * 8 + (xp (v * 4 + x) - 1) / 16) < (xp (v * 4 + x) - 1) % 16)
def zq_orph (xp xl : Nat → Nat) (n r v : Nat) : Bool := zf_ex (zq_ol xp xl r v) n 0
def zq_wl (xp xk : Nat → Nat) (r v x : Nat) : Bool := if xp (v * 4 + x) = 0 then false else zf_ex (fun k => !(xk (r * 4 + x)).testBit k) ((xp (v * 4 + x) - 1) / 16) 0
def zq_wait (xp xk : Nat → Nat) (n r v : Nat) : Bool := zf_ex (zq_wl xp xk r v) n 0
def zq_ml (xp xm : Nat → Nat) (r v x : Nat) : Bool := decide (x ≠ r ∧ xp (v * 4 + x) ≠ 0 ∧ xm ((r * 4 + x) * 8 + (xp (v * 4 + x) - 1) / 16) ≤ (xp (v * 4 + x) - 1) % 16)
def zq_mark (xp xm : Nat → Nat) (n r v : Nat) : Bool := !zf_ex (zq_ml xp xm r v) n 0
section
variable {n sc lm sv rl bg : Nat} {xup xs : Nat → Bool} {ix ic st xo xp xt en xk xl xm : Nat → Nat} {un rp dc xv xrs xrr xra xss sr sa op ol ov : Nat → Int32}
theorem zx_orph_l {post : Int32 → Prop} {r v : Nat} (hn : n ≤ 4) (hr : r < 4) (hv : v < 140) (hxp : ∀ j, xp j ≤ 128) (hxl : ∀ j, xl j ≤ 16) : ∀ d x, x + d = n → post (zc_b (zf_ex (zq_ol xp xl r v) d x)) → wX_isOrphan_2 post (nI r) (nI v) (nI n) (nI sc) (nI lm) (nI sv) (nI rl) (nI bg) (zc_B xup) (zc_N ix) (zc_N ic) (zc_N st) un rp dc xv (zc_B xs) (zc_N xo) xrs xrr xra (zc_O xp) (zc_O xt) xss sr sa (zc_N en) (zc_N xk) (zc_N xl) (zc_E xm) op ol ov (d + 1) (nI x) := by
  intro d
  induction d with
  | zero =>
    intro x h hp
    obtain rfl : x = n := by omega
    exact br_t (nI_le (Nat.le_refl _) (by omega)) hp
  | succ d ih =>
    intro x h hp
    have hb := hxp (v * 4 + x)
    rw [zf_ex_s] at hp
    by_cases hq : xp (v * 4 + x) = 0
    · rw [if_neg (by unfold zq_ol; rw [decide_eq_true_eq]; exact fun z => z.1 hq)] at hp
      rw [wX_isOrphan_2]
      simp (disch := omega) only [zn_k4, zn_k8, zn_k16, zn_k32, zn_m16, zn_a64, zn_a128, nI_add, nI_1, nI_clamp, vp_in_nI, true_and, and_true, forall_eq, zn_rN, zn_rB, zn_rO, zn_rE, zn_vb0, zn_vb1, zn_b1, zn_b0, zn_d1, zn_d0, zn_e1, zn_e0, zn_wN, zn_wB1, zn_wB0, zn_wO, zn_wOd, zn_wO0, zn_wE, zn_wEe, zn_wE0, zn_leT, zn_leF, zn_ltT, zn_ltF, zn_eqF, zn_eqT, zn_lt0, zn_0le, zn_d2a, zn_d2b, zn_e1a, zn_e1b, zn_10, zn_00, zn_sh4, zn_an15, true_imp_iff, false_imp_iff, imp_true_iff, not_true_eq_false, not_false_eq_true, zn_gT4, zn_gF4, zn_gT8, zn_gF8, zn_gT12, zn_gF12, zn_gT48, zn_gF48, zn_gT124, zn_gF124, zn_gT128, zn_gF128, zn_gT560, zn_gF560, zn_lT7, zn_lF7, zn_lT120, zn_lF120, zn_qT7, zn_qF7, zn_qT120, zn_qF120, zn_qT0, zn_qF0, zn_qT1, zn_qF1, zn_hT0, zn_hF0, zn_hT7, zn_hF7, zn_sb, pk_us, zn_us, hq]
      exact ih (x + 1) (by omega) hp
    · obtain ⟨c, hc⟩ : ∃ c, xp (v * 4 + x) = c + 1 := ⟨xp (v * 4 + x) - 1, by omega⟩
      have hl := hxl ((r * 4 + x) * 8 + c / 16)
      unfold zq_ol at hp
      rw [hc, Nat.add_sub_cancel] at hp
      by_cases hz : xl ((r * 4 + x) * 8 + c / 16) < c % 16
      · rw [if_pos (decide_eq_true ⟨by omega, hz⟩)] at hp
        rw [wX_isOrphan_2]
        simp (disch := omega) only [zn_k4, zn_k8, zn_k16, zn_k32, zn_m16, zn_a64, zn_a128, nI_add, nI_1, nI_clamp, vp_in_nI, true_and, and_true, forall_eq, zn_rN, zn_rB, zn_rO, zn_rE, zn_vb0, zn_vb1, zn_b1, zn_b0, zn_d1, zn_d0, zn_e1, zn_e0, zn_wN, zn_wB1, zn_wB0, zn_wO, zn_wOd, zn_wO0, zn_wE, zn_wEe, zn_wE0, zn_leT, zn_leF, zn_ltT, zn_ltF, zn_eqF, zn_eqT, zn_lt0, zn_0le, zn_d2a, zn_d2b, zn_e1a, zn_e1b, zn_10, zn_00, zn_sh4, zn_an15, true_imp_iff, false_imp_iff, imp_true_iff, not_true_eq_false, not_false_eq_true, zn_gT4, zn_gF4, zn_gT8, zn_gF8, zn_gT12, zn_gF12, zn_gT48, zn_gF48, zn_gT124, zn_gF124, zn_gT128, zn_gF128, zn_gT560, zn_gF560, zn_lT7, zn_lF7, zn_lT120, zn_lF120, zn_qT7, zn_qF7, zn_qT120, zn_qF120, zn_qT0, zn_qF0, zn_qT1, zn_qF1, zn_hT0, zn_hF0, zn_hT7, zn_hF7, zn_sb, pk_us, zn_us, hc]
        exact hp
      · rw [if_neg (by rw [decide_eq_true_eq]; exact fun z => hz z.2)] at hp
        rw [wX_isOrphan_2]
        simp (disch := omega) only [zn_k4, zn_k8, zn_k16, zn_k32, zn_m16, zn_a64, zn_a128, nI_add, nI_1, nI_clamp, vp_in_nI, true_and, and_true, forall_eq, zn_rN, zn_rB, zn_rO, zn_rE, zn_vb0, zn_vb1, zn_b1, zn_b0, zn_d1, zn_d0, zn_e1, zn_e0, zn_wN, zn_wB1, zn_wB0, zn_wO, zn_wOd, zn_wO0, zn_wE, zn_wEe, zn_wE0, zn_leT, zn_leF, zn_ltT, zn_ltF, zn_eqF, zn_eqT, zn_lt0, zn_0le, zn_d2a, zn_d2b, zn_e1a, zn_e1b, zn_10, zn_00, zn_sh4, zn_an15, true_imp_iff, false_imp_iff, imp_true_iff, not_true_eq_false, not_false_eq_true, zn_gT4, zn_gF4, zn_gT8, zn_gF8, zn_gT12, zn_gF12, zn_gT48, zn_gF48, zn_gT124, zn_gF124, zn_gT128, zn_gF128, zn_gT560, zn_gF560, zn_lT7, zn_lF7, zn_lT120, zn_lF120, zn_qT7, zn_qF7, zn_qT120, zn_qF120, zn_qT0, zn_qF0, zn_qT1, zn_qF1, zn_hT0, zn_hF0, zn_hT7, zn_hF7, zn_sb, pk_us, zn_us, hc]
        exact ih (x + 1) (by omega) hp
theorem zx_orph {post : Int32 → Prop} {r v : Nat} (hn : n ≤ 4) (hr : r < 4) (hv : v < 140) (hxp : ∀ j, xp j ≤ 128) (hxl : ∀ j, xl j ≤ 16) (hp : post (zc_b (zq_orph xp xl n r v))) : wpX_isOrphan post (nI n, nI sc, nI lm, nI sv, nI rl, nI bg, zc_B xup, zc_N ix, zc_N ic, zc_N st, un, rp, dc, xv, zc_B xs, zc_N xo, xrs, xrr, xra, zc_O xp, zc_O xt, xss, sr, sa, zc_N en, zc_N xk, zc_N xl, zc_E xm, op, ol, ov) (nI r) (nI v) := ⟨n + 1, zx_orph_l hn hr hv hxp hxl n 0 (by omega) hp⟩
theorem zx_wait_l {post : Int32 → Prop} {r v : Nat} (hn : n ≤ 4) (hr : r < 4) (hv : v < 140) (hxp : ∀ j, xp j ≤ 128) (hxk : ∀ j, xk j < 256) : ∀ d x, x + d = n → post (zc_b (zf_ex (zq_wl xp xk r v) d x)) → wX_mustWait_2 post (nI r) (nI v) (nI n) (nI sc) (nI lm) (nI sv) (nI rl) (nI bg) (zc_B xup) (zc_N ix) (zc_N ic) (zc_N st) un rp dc xv (zc_B xs) (zc_N xo) xrs xrr xra (zc_O xp) (zc_O xt) xss sr sa (zc_N en) (zc_N xk) (zc_N xl) (zc_E xm) op ol ov (d + 1) (nI x) := by
  intro d
  induction d with
  | zero =>
    intro x h hp
    obtain rfl : x = n := by omega
    exact br_t (nI_le (Nat.le_refl _) (by omega)) hp
  | succ d ih =>
    intro x h hp
    have hb := hxp (v * 4 + x)
    rw [zf_ex_s] at hp
    by_cases hq : xp (v * 4 + x) = 0
    · rw [if_neg (by unfold zq_wl; rw [if_pos hq]; decide)] at hp
      rw [wX_mustWait_2]
      simp (disch := omega) only [zn_k4, zn_k8, zn_k16, zn_k32, zn_m16, zn_a64, zn_a128, nI_add, nI_1, nI_clamp, vp_in_nI, true_and, and_true, forall_eq, zn_rN, zn_rB, zn_rO, zn_rE, zn_vb0, zn_vb1, zn_b1, zn_b0, zn_d1, zn_d0, zn_e1, zn_e0, zn_wN, zn_wB1, zn_wB0, zn_wO, zn_wOd, zn_wO0, zn_wE, zn_wEe, zn_wE0, zn_leT, zn_leF, zn_ltT, zn_ltF, zn_eqF, zn_eqT, zn_lt0, zn_0le, zn_d2a, zn_d2b, zn_e1a, zn_e1b, zn_10, zn_00, zn_sh4, zn_an15, true_imp_iff, false_imp_iff, imp_true_iff, not_true_eq_false, not_false_eq_true, zn_gT4, zn_gF4, zn_gT8, zn_gF8, zn_gT12, zn_gF12, zn_gT48, zn_gF48, zn_gT124, zn_gF124, zn_gT128, zn_gF128, zn_gT560, zn_gF560, zn_lT7, zn_lF7, zn_lT120, zn_lF120, zn_qT7, zn_qF7, zn_qT120, zn_qF120, zn_qT0, zn_qF0, zn_qT1, zn_qF1, zn_hT0, zn_hF0, zn_hT7, zn_hF7, zn_sb, pk_us, zn_us, hq]
      exact ih (x + 1) (by omega) hp
    · obtain ⟨c, hc⟩ : ∃ c, xp (v * 4 + x) = c + 1 := ⟨xp (v * 4 + x) - 1, by omega⟩
      have hk := hxk (r * 4 + x)
      have h7 : c / 16 < 8 := by omega
      have ho := zn_ones hk h7
      have h1 := zn_1k1 (c / 16) h7
      unfold zq_wl at hp
      rw [if_neg hq, hc, Nat.add_sub_cancel] at hp
      by_cases hz : ∀ k, k < c / 16 → (xk (r * 4 + x)).testBit k = true
      · have hf : zf_ex (fun k => !(xk (r * 4 + x)).testBit k) (c / 16) 0 = false := (zf_ex_f _ _ _).mpr (fun j _ h2 => by (try dsimp only); rw [hz j (by omega)]; rfl)
        rw [hf, if_neg (by decide)] at hp
        rw [wX_mustWait_2]
        simp (disch := omega) only [zn_k4, zn_k8, zn_k16, zn_k32, zn_m16, zn_a64, zn_a128, nI_add, nI_1, nI_clamp, vp_in_nI, true_and, and_true, forall_eq, zn_rN, zn_rB, zn_rO, zn_rE, zn_vb0, zn_vb1, zn_b1, zn_b0, zn_d1, zn_d0, zn_e1, zn_e0, zn_wN, zn_wB1, zn_wB0, zn_wO, zn_wOd, zn_wO0, zn_wE, zn_wEe, zn_wE0, zn_leT, zn_leF, zn_ltT, zn_ltF, zn_eqF, zn_eqT, zn_lt0, zn_0le, zn_d2a, zn_d2b, zn_e1a, zn_e1b, zn_10, zn_00, zn_sh4, zn_an15, true_imp_iff, false_imp_iff, imp_true_iff, not_true_eq_false, not_false_eq_true, zn_gT4, zn_gF4, zn_gT8, zn_gF8, zn_gT12, zn_gF12, zn_gT48, zn_gF48, zn_gT124, zn_gF124, zn_gT128, zn_gF128, zn_gT560, zn_gF560, zn_lT7, zn_lF7, zn_lT120, zn_lF120, zn_qT7, zn_qF7, zn_qT120, zn_qF120, zn_qT0, zn_qF0, zn_qT1, zn_qF1, zn_hT0, zn_hF0, zn_hT7, zn_hF7, zn_sb, pk_us, zn_us, hc, h1, eq_true (ho.mpr hz)]
        exact ih (x + 1) (by omega) hp
      · have hf : zf_ex (fun k => !(xk (r * 4 + x)).testBit k) (c / 16) 0 = true := by
          cases hg : zf_ex (fun k => !(xk (r * 4 + x)).testBit k) (c / 16) 0 with
          | true => rfl
          | false =>
            refine absurd (fun k hk2 => ?_) hz
            have := (zf_ex_f _ _ _).mp hg k (by omega) (by omega)
            try dsimp only at this
            cases ht : (xk (r * 4 + x)).testBit k with
            | true => rfl
            | false => rw [ht] at this; exact absurd this (by decide)
        rw [hf, if_pos rfl] at hp
        rw [wX_mustWait_2]
        simp (disch := omega) only [zn_k4, zn_k8, zn_k16, zn_k32, zn_m16, zn_a64, zn_a128, nI_add, nI_1, nI_clamp, vp_in_nI, true_and, and_true, forall_eq, zn_rN, zn_rB, zn_rO, zn_rE, zn_vb0, zn_vb1, zn_b1, zn_b0, zn_d1, zn_d0, zn_e1, zn_e0, zn_wN, zn_wB1, zn_wB0, zn_wO, zn_wOd, zn_wO0, zn_wE, zn_wEe, zn_wE0, zn_leT, zn_leF, zn_ltT, zn_ltF, zn_eqF, zn_eqT, zn_lt0, zn_0le, zn_d2a, zn_d2b, zn_e1a, zn_e1b, zn_10, zn_00, zn_sh4, zn_an15, true_imp_iff, false_imp_iff, imp_true_iff, not_true_eq_false, not_false_eq_true, zn_gT4, zn_gF4, zn_gT8, zn_gF8, zn_gT12, zn_gF12, zn_gT48, zn_gF48, zn_gT124, zn_gF124, zn_gT128, zn_gF128, zn_gT560, zn_gF560, zn_lT7, zn_lF7, zn_lT120, zn_lF120, zn_qT7, zn_qF7, zn_qT120, zn_qF120, zn_qT0, zn_qF0, zn_qT1, zn_qF1, zn_hT0, zn_hF0, zn_hT7, zn_hF7, zn_sb, pk_us, zn_us, hc, h1, eq_false (fun z => hz (ho.mp z))]
        exact hp
theorem zx_wait {post : Int32 → Prop} {r v : Nat} (hn : n ≤ 4) (hr : r < 4) (hv : v < 140) (hxp : ∀ j, xp j ≤ 128) (hxk : ∀ j, xk j < 256) (hp : post (zc_b (zq_wait xp xk n r v))) : wpX_mustWait post (nI n, nI sc, nI lm, nI sv, nI rl, nI bg, zc_B xup, zc_N ix, zc_N ic, zc_N st, un, rp, dc, xv, zc_B xs, zc_N xo, xrs, xrr, xra, zc_O xp, zc_O xt, xss, sr, sa, zc_N en, zc_N xk, zc_N xl, zc_E xm, op, ol, ov) (nI r) (nI v) := ⟨n + 1, zx_wait_l hn hr hv hxp hxk n 0 (by omega) hp⟩
theorem zx_saves_l {post : Int32 → Prop} {p m : Nat} (hp4 : p < 4) (hm : m ≤ 12) : ∀ d i c, c ≤ i → i + d = m + 1 → post (nI (c + zf_cnt (fun j => xs (p * 16 + j)) d i)) → wX_savesOf_12 post (nI p) (nI m) (nI n) (nI sc) (nI lm) (nI sv) (nI rl) (nI bg) (zc_B xup) (zc_N ix) (zc_N ic) (zc_N st) un rp dc xv (zc_B xs) (zc_N xo) xrs xrr xra (zc_O xp) (zc_O xt) xss sr sa (zc_N en) (zc_N xk) (zc_N xl) (zc_E xm) op ol ov (d + 1) (nI c) (nI i) := by
  intro d
  induction d with
  | zero =>
    intro i c hc h hp
    exact br_t (nI_lt (by omega) (by omega)) hp
  | succ d ih =>
    intro i c hc h hp
    rw [zf_cnt_s] at hp
    cases hq : xs (p * 16 + i) with
    | false =>
      rw [if_neg (by rw [hq]; decide), Nat.zero_add] at hp
      rw [wX_savesOf_12]
      simp (disch := omega) only [zn_k4, zn_k8, zn_k16, zn_k32, zn_m16, zn_a64, zn_a128, nI_add, nI_1, nI_clamp, vp_in_nI, true_and, and_true, forall_eq, zn_rN, zn_rB, zn_rO, zn_rE, zn_vb0, zn_vb1, zn_b1, zn_b0, zn_d1, zn_d0, zn_e1, zn_e0, zn_wN, zn_wB1, zn_wB0, zn_wO, zn_wOd, zn_wO0, zn_wE, zn_wEe, zn_wE0, zn_leT, zn_leF, zn_ltT, zn_ltF, zn_eqF, zn_eqT, zn_lt0, zn_0le, zn_d2a, zn_d2b, zn_e1a, zn_e1b, zn_10, zn_00, zn_sh4, zn_an15, true_imp_iff, false_imp_iff, imp_true_iff, not_true_eq_false, not_false_eq_true, zn_gT4, zn_gF4, zn_gT8, zn_gF8, zn_gT12, zn_gF12, zn_gT48, zn_gF48, zn_gT124, zn_gF124, zn_gT128, zn_gF128, zn_gT560, zn_gF560, zn_lT7, zn_lF7, zn_lT120, zn_lF120, zn_qT7, zn_qF7, zn_qT120, zn_qF120, zn_qT0, zn_qF0, zn_qT1, zn_qF1, zn_hT0, zn_hF0, zn_hT7, zn_hF7, zn_sb, pk_us, zn_us, hq]
      exact ih (i + 1) c (by omega) (by omega) hp
    | true =>
      rw [if_pos hq, ← Nat.add_assoc] at hp
      rw [wX_savesOf_12]
      simp (disch := omega) only [zn_k4, zn_k8, zn_k16, zn_k32, zn_m16, zn_a64, zn_a128, nI_add, nI_1, nI_clamp, vp_in_nI, true_and, and_true, forall_eq, zn_rN, zn_rB, zn_rO, zn_rE, zn_vb0, zn_vb1, zn_b1, zn_b0, zn_d1, zn_d0, zn_e1, zn_e0, zn_wN, zn_wB1, zn_wB0, zn_wO, zn_wOd, zn_wO0, zn_wE, zn_wEe, zn_wE0, zn_leT, zn_leF, zn_ltT, zn_ltF, zn_eqF, zn_eqT, zn_lt0, zn_0le, zn_d2a, zn_d2b, zn_e1a, zn_e1b, zn_10, zn_00, zn_sh4, zn_an15, true_imp_iff, false_imp_iff, imp_true_iff, not_true_eq_false, not_false_eq_true, zn_gT4, zn_gF4, zn_gT8, zn_gF8, zn_gT12, zn_gF12, zn_gT48, zn_gF48, zn_gT124, zn_gF124, zn_gT128, zn_gF128, zn_gT560, zn_gF560, zn_lT7, zn_lF7, zn_lT120, zn_lF120, zn_qT7, zn_qF7, zn_qT120, zn_qF120, zn_qT0, zn_qF0, zn_qT1, zn_qF1, zn_hT0, zn_hF0, zn_hT7, zn_hF7, zn_sb, pk_us, zn_us, hq]
      exact ih (i + 1) (c + 1) (by omega) (by omega) hp
theorem zx_saves {post : Int32 → Prop} {p : Nat} (hp4 : p < 4) (hix : ∀ j, ix j ≤ 12) (hp : post (nI (zf_cnt (fun j => xs (p * 16 + j)) (ix p) 1))) : wpX_savesOf post (nI n, nI sc, nI lm, nI sv, nI rl, nI bg, zc_B xup, zc_N ix, zc_N ic, zc_N st, un, rp, dc, xv, zc_B xs, zc_N xo, xrs, xrr, xra, zc_O xp, zc_O xt, xss, sr, sa, zc_N en, zc_N xk, zc_N xl, zc_E xm, op, ol, ov) (nI p) := by
  have hm := hix p
  unfold wpX_savesOf
  simp (disch := omega) only [zn_k4, zn_k8, zn_k16, zn_k32, zn_m16, zn_a64, zn_a128, nI_add, nI_1, nI_clamp, vp_in_nI, true_and, and_true, forall_eq, zn_rN, zn_rB, zn_rO, zn_rE, zn_vb0, zn_vb1, zn_b1, zn_b0, zn_d1, zn_d0, zn_e1, zn_e0, zn_wN, zn_wB1, zn_wB0, zn_wO, zn_wOd, zn_wO0, zn_wE, zn_wEe, zn_wE0, zn_leT, zn_leF, zn_ltT, zn_ltF, zn_eqF, zn_eqT, zn_lt0, zn_0le, zn_d2a, zn_d2b, zn_e1a, zn_e1b, zn_10, zn_00, zn_sh4, zn_an15, true_imp_iff, false_imp_iff, imp_true_iff, not_true_eq_false, not_false_eq_true, zn_gT4, zn_gF4, zn_gT8, zn_gF8, zn_gT12, zn_gF12, zn_gT48, zn_gF48, zn_gT124, zn_gF124, zn_gT128, zn_gF128, zn_gT560, zn_gF560, zn_lT7, zn_lF7, zn_lT120, zn_lF120, zn_qT7, zn_qF7, zn_qT120, zn_qF120, zn_qT0, zn_qF0, zn_qT1, zn_qF1, zn_hT0, zn_hF0, zn_hT7, zn_hF7, zn_sb, pk_us, zn_us]
  exact ⟨ix p + 1, zx_saves_l hp4 hm (ix p) 1 0 (by omega) (by omega) (by rw [Nat.zero_add]; exact hp)⟩
theorem zx_held_l {post : Int32 → Prop} {p m : Nat} (hp4 : p < 4) (hm : m ≤ 12) (hxo : ∀ j, xo j ≤ 2) : ∀ d i c, c ≤ i → i + d = m + 1 → post (nI (c + zf_cnt (fun j => decide (xo (p * 16 + j) = 1)) d i)) → wX_heldOf_12 post (nI p) (nI m) (nI n) (nI sc) (nI lm) (nI sv) (nI rl) (nI bg) (zc_B xup) (zc_N ix) (zc_N ic) (zc_N st) un rp dc xv (zc_B xs) (zc_N xo) xrs xrr xra (zc_O xp) (zc_O xt) xss sr sa (zc_N en) (zc_N xk) (zc_N xl) (zc_E xm) op ol ov (d + 1) (nI c) (nI i) := by
  intro d
  induction d with
  | zero =>
    intro i c hc h hp
    exact br_t (nI_lt (by omega) (by omega)) hp
  | succ d ih =>
    intro i c hc h hp
    rw [zf_cnt_s] at hp
    have ho := hxo (p * 16 + i)
    by_cases hq : xo (p * 16 + i) = 1
    · rw [if_pos (decide_eq_true hq), ← Nat.add_assoc] at hp
      rw [wX_heldOf_12]
      simp (disch := omega) only [zn_k4, zn_k8, zn_k16, zn_k32, zn_m16, zn_a64, zn_a128, nI_add, nI_1, nI_clamp, vp_in_nI, true_and, and_true, forall_eq, zn_rN, zn_rB, zn_rO, zn_rE, zn_vb0, zn_vb1, zn_b1, zn_b0, zn_d1, zn_d0, zn_e1, zn_e0, zn_wN, zn_wB1, zn_wB0, zn_wO, zn_wOd, zn_wO0, zn_wE, zn_wEe, zn_wE0, zn_leT, zn_leF, zn_ltT, zn_ltF, zn_eqF, zn_eqT, zn_lt0, zn_0le, zn_d2a, zn_d2b, zn_e1a, zn_e1b, zn_10, zn_00, zn_sh4, zn_an15, true_imp_iff, false_imp_iff, imp_true_iff, not_true_eq_false, not_false_eq_true, zn_gT4, zn_gF4, zn_gT8, zn_gF8, zn_gT12, zn_gF12, zn_gT48, zn_gF48, zn_gT124, zn_gF124, zn_gT128, zn_gF128, zn_gT560, zn_gF560, zn_lT7, zn_lF7, zn_lT120, zn_lF120, zn_qT7, zn_qF7, zn_qT120, zn_qF120, zn_qT0, zn_qF0, zn_qT1, zn_qF1, zn_hT0, zn_hF0, zn_hT7, zn_hF7, zn_sb, pk_us, zn_us]
      exact ih (i + 1) (c + 1) (by omega) (by omega) hp
    · rw [if_neg (by rw [decide_eq_true_eq]; exact hq), Nat.zero_add] at hp
      rw [wX_heldOf_12]
      simp (disch := omega) only [zn_k4, zn_k8, zn_k16, zn_k32, zn_m16, zn_a64, zn_a128, nI_add, nI_1, nI_clamp, vp_in_nI, true_and, and_true, forall_eq, zn_rN, zn_rB, zn_rO, zn_rE, zn_vb0, zn_vb1, zn_b1, zn_b0, zn_d1, zn_d0, zn_e1, zn_e0, zn_wN, zn_wB1, zn_wB0, zn_wO, zn_wOd, zn_wO0, zn_wE, zn_wEe, zn_wE0, zn_leT, zn_leF, zn_ltT, zn_ltF, zn_eqF, zn_eqT, zn_lt0, zn_0le, zn_d2a, zn_d2b, zn_e1a, zn_e1b, zn_10, zn_00, zn_sh4, zn_an15, true_imp_iff, false_imp_iff, imp_true_iff, not_true_eq_false, not_false_eq_true, zn_gT4, zn_gF4, zn_gT8, zn_gF8, zn_gT12, zn_gF12, zn_gT48, zn_gF48, zn_gT124, zn_gF124, zn_gT128, zn_gF128, zn_gT560, zn_gF560, zn_lT7, zn_lF7, zn_lT120, zn_lF120, zn_qT7, zn_qF7, zn_qT120, zn_qF120, zn_qT0, zn_qF0, zn_qT1, zn_qF1, zn_hT0, zn_hF0, zn_hT7, zn_hF7, zn_sb, pk_us, zn_us]
      exact ih (i + 1) c (by omega) (by omega) hp
theorem zx_held {post : Int32 → Prop} {p : Nat} (hp4 : p < 4) (hix : ∀ j, ix j ≤ 12) (hxo : ∀ j, xo j ≤ 2) (hp : post (nI (zf_cnt (fun j => decide (xo (p * 16 + j) = 1)) (ix p + 1) 0))) : wpX_heldOf post (nI n, nI sc, nI lm, nI sv, nI rl, nI bg, zc_B xup, zc_N ix, zc_N ic, zc_N st, un, rp, dc, xv, zc_B xs, zc_N xo, xrs, xrr, xra, zc_O xp, zc_O xt, xss, sr, sa, zc_N en, zc_N xk, zc_N xl, zc_E xm, op, ol, ov) (nI p) := by
  have hm := hix p
  unfold wpX_heldOf
  simp (disch := omega) only [zn_k4, zn_k8, zn_k16, zn_k32, zn_m16, zn_a64, zn_a128, nI_add, nI_1, nI_clamp, vp_in_nI, true_and, and_true, forall_eq, zn_rN, zn_rB, zn_rO, zn_rE, zn_vb0, zn_vb1, zn_b1, zn_b0, zn_d1, zn_d0, zn_e1, zn_e0, zn_wN, zn_wB1, zn_wB0, zn_wO, zn_wOd, zn_wO0, zn_wE, zn_wEe, zn_wE0, zn_leT, zn_leF, zn_ltT, zn_ltF, zn_eqF, zn_eqT, zn_lt0, zn_0le, zn_d2a, zn_d2b, zn_e1a, zn_e1b, zn_10, zn_00, zn_sh4, zn_an15, true_imp_iff, false_imp_iff, imp_true_iff, not_true_eq_false, not_false_eq_true, zn_gT4, zn_gF4, zn_gT8, zn_gF8, zn_gT12, zn_gF12, zn_gT48, zn_gF48, zn_gT124, zn_gF124, zn_gT128, zn_gF128, zn_gT560, zn_gF560, zn_lT7, zn_lF7, zn_lT120, zn_lF120, zn_qT7, zn_qF7, zn_qT120, zn_qF120, zn_qT0, zn_qF0, zn_qT1, zn_qF1, zn_hT0, zn_hF0, zn_hT7, zn_hF7, zn_sb, pk_us, zn_us]
  exact ⟨ix p + 2, zx_held_l hp4 hm hxo (ix p + 1) 0 0 (by omega) (by omega) (by rw [Nat.zero_add]; exact hp)⟩
theorem zx_base_l {post : Int32 → Prop} {p : Nat} (hp4 : p < 4) : ∀ i, i ≤ 12 → post (nI (zf_last (fun j => xs (p * 16 + j)) i)) → wX_savedBase_7 post (nI p) (nI n) (nI sc) (nI lm) (nI sv) (nI rl) (nI bg) (zc_B xup) (zc_N ix) (zc_N ic) (zc_N st) un rp dc xv (zc_B xs) (zc_N xo) xrs xrr xra (zc_O xp) (zc_O xt) xss sr sa (zc_N en) (zc_N xk) (zc_N xl) (zc_E xm) op ol ov (i + 1) (nI i) := by
  intro i
  induction i with
  | zero =>
    intro h hp
    exact br_t (by decide) hp
  | succ i ih =>
    intro h hp
    rw [zf_last_s] at hp
    cases hq : xs (p * 16 + (i + 1)) with
    | false =>
      rw [if_neg (by rw [hq]; decide)] at hp
      rw [wX_savedBase_7]
      simp (disch := omega) only [zn_k4, zn_k8, zn_k16, zn_k32, zn_m16, zn_a64, zn_a128, nI_add, nI_1, nI_clamp, vp_in_nI, true_and, and_true, forall_eq, zn_rN, zn_rB, zn_rO, zn_rE, zn_vb0, zn_vb1, zn_b1, zn_b0, zn_d1, zn_d0, zn_e1, zn_e0, zn_wN, zn_wB1, zn_wB0, zn_wO, zn_wOd, zn_wO0, zn_wE, zn_wEe, zn_wE0, zn_leT, zn_leF, zn_ltT, zn_ltF, zn_eqF, zn_eqT, zn_lt0, zn_0le, zn_d2a, zn_d2b, zn_e1a, zn_e1b, zn_10, zn_00, zn_sh4, zn_an15, true_imp_iff, false_imp_iff, imp_true_iff, not_true_eq_false, not_false_eq_true, zn_gT4, zn_gF4, zn_gT8, zn_gF8, zn_gT12, zn_gF12, zn_gT48, zn_gF48, zn_gT124, zn_gF124, zn_gT128, zn_gF128, zn_gT560, zn_gF560, zn_lT7, zn_lF7, zn_lT120, zn_lF120, zn_qT7, zn_qF7, zn_qT120, zn_qF120, zn_qT0, zn_qF0, zn_qT1, zn_qF1, zn_hT0, zn_hF0, zn_hT7, zn_hF7, zn_sb, pk_us, zn_us, hq, pk_m1]
      exact ih (by omega) hp
    | true =>
      rw [if_pos hq] at hp
      rw [wX_savedBase_7]
      simp (disch := omega) only [zn_k4, zn_k8, zn_k16, zn_k32, zn_m16, zn_a64, zn_a128, nI_add, nI_1, nI_clamp, vp_in_nI, true_and, and_true, forall_eq, zn_rN, zn_rB, zn_rO, zn_rE, zn_vb0, zn_vb1, zn_b1, zn_b0, zn_d1, zn_d0, zn_e1, zn_e0, zn_wN, zn_wB1, zn_wB0, zn_wO, zn_wOd, zn_wO0, zn_wE, zn_wEe, zn_wE0, zn_leT, zn_leF, zn_ltT, zn_ltF, zn_eqF, zn_eqT, zn_lt0, zn_0le, zn_d2a, zn_d2b, zn_e1a, zn_e1b, zn_10, zn_00, zn_sh4, zn_an15, true_imp_iff, false_imp_iff, imp_true_iff, not_true_eq_false, not_false_eq_true, zn_gT4, zn_gF4, zn_gT8, zn_gF8, zn_gT12, zn_gF12, zn_gT48, zn_gF48, zn_gT124, zn_gF124, zn_gT128, zn_gF128, zn_gT560, zn_gF560, zn_lT7, zn_lF7, zn_lT120, zn_lF120, zn_qT7, zn_qF7, zn_qT120, zn_qF120, zn_qT0, zn_qF0, zn_qT1, zn_qF1, zn_hT0, zn_hF0, zn_hT7, zn_hF7, zn_sb, pk_us, zn_us, hq]
      exact hp
theorem zx_base {post : Int32 → Prop} {p : Nat} (hp4 : p < 4) (hix : ∀ j, ix j ≤ 12) (hp : post (nI (zf_last (fun j => xs (p * 16 + j)) (ix p)))) : wpX_savedBase post (nI n, nI sc, nI lm, nI sv, nI rl, nI bg, zc_B xup, zc_N ix, zc_N ic, zc_N st, un, rp, dc, xv, zc_B xs, zc_N xo, xrs, xrr, xra, zc_O xp, zc_O xt, xss, sr, sa, zc_N en, zc_N xk, zc_N xl, zc_E xm, op, ol, ov) (nI p) := by
  have hm := hix p
  unfold wpX_savedBase
  simp (disch := omega) only [zn_k4, zn_k8, zn_k16, zn_k32, zn_m16, zn_a64, zn_a128, nI_add, nI_1, nI_clamp, vp_in_nI, true_and, and_true, forall_eq, zn_rN, zn_rB, zn_rO, zn_rE, zn_vb0, zn_vb1, zn_b1, zn_b0, zn_d1, zn_d0, zn_e1, zn_e0, zn_wN, zn_wB1, zn_wB0, zn_wO, zn_wOd, zn_wO0, zn_wE, zn_wEe, zn_wE0, zn_leT, zn_leF, zn_ltT, zn_ltF, zn_eqF, zn_eqT, zn_lt0, zn_0le, zn_d2a, zn_d2b, zn_e1a, zn_e1b, zn_10, zn_00, zn_sh4, zn_an15, true_imp_iff, false_imp_iff, imp_true_iff, not_true_eq_false, not_false_eq_true, zn_gT4, zn_gF4, zn_gT8, zn_gF8, zn_gT12, zn_gF12, zn_gT48, zn_gF48, zn_gT124, zn_gF124, zn_gT128, zn_gF128, zn_gT560, zn_gF560, zn_lT7, zn_lF7, zn_lT120, zn_lF120, zn_qT7, zn_qF7, zn_qT120, zn_qF120, zn_qT0, zn_qF0, zn_qT1, zn_qF1, zn_hT0, zn_hF0, zn_hT7, zn_hF7, zn_sb, pk_us, zn_us]
  exact ⟨ix p + 1, zx_base_l hp4 (ix p) hm hp⟩
theorem zx_sound_l {post : Int32 → Prop} {r : Nat} (hn : n ≤ 4) (hr : r < 4) (hxp : ∀ j, xp j ≤ 128) (hxl : ∀ j, xl j ≤ 16) : ∀ i, i ≤ 12 → post (nI (zf_last (fun j => !zq_orph xp xl n r (r * 16 + j)) i)) → wX_lastSound_7 post (nI r) (nI n) (nI sc) (nI lm) (nI sv) (nI rl) (nI bg) (zc_B xup) (zc_N ix) (zc_N ic) (zc_N st) un rp dc xv (zc_B xs) (zc_N xo) xrs xrr xra (zc_O xp) (zc_O xt) xss sr sa (zc_N en) (zc_N xk) (zc_N xl) (zc_E xm) op ol ov (i + 1) (nI i) := by
  intro i
  induction i with
  | zero =>
    intro h hp
    exact br_t (by decide) hp
  | succ i ih =>
    intro h hp
    rw [zf_last_s] at hp
    rw [wX_lastSound_7]
    simp (disch := omega) only [zn_k4, zn_k8, zn_k16, zn_k32, zn_m16, zn_a64, zn_a128, nI_add, nI_1, nI_clamp, vp_in_nI, true_and, and_true, forall_eq, zn_rN, zn_rB, zn_rO, zn_rE, zn_vb0, zn_vb1, zn_b1, zn_b0, zn_d1, zn_d0, zn_e1, zn_e0, zn_wN, zn_wB1, zn_wB0, zn_wO, zn_wOd, zn_wO0, zn_wE, zn_wEe, zn_wE0, zn_leT, zn_leF, zn_ltT, zn_ltF, zn_eqF, zn_eqT, zn_lt0, zn_0le, zn_d2a, zn_d2b, zn_e1a, zn_e1b, zn_10, zn_00, zn_sh4, zn_an15, true_imp_iff, false_imp_iff, imp_true_iff, not_true_eq_false, not_false_eq_true, zn_gT4, zn_gF4, zn_gT8, zn_gF8, zn_gT12, zn_gF12, zn_gT48, zn_gF48, zn_gT124, zn_gF124, zn_gT128, zn_gF128, zn_gT560, zn_gF560, zn_lT7, zn_lF7, zn_lT120, zn_lF120, zn_qT7, zn_qF7, zn_qT120, zn_qF120, zn_qT0, zn_qF0, zn_qT1, zn_qF1, zn_hT0, zn_hF0, zn_hT7, zn_hF7, zn_sb, pk_us, zn_us]
    refine zx_orph hn hr (by omega) hxp hxl ?_
    cases hq : zq_orph xp xl n r (r * 16 + (i + 1)) with
    | false =>
      rw [if_pos (by rw [hq]; rfl)] at hp
      simp (disch := omega) only [zn_k4, zn_k8, zn_k16, zn_k32, zn_m16, zn_a64, zn_a128, nI_add, nI_1, nI_clamp, vp_in_nI, true_and, and_true, forall_eq, zn_rN, zn_rB, zn_rO, zn_rE, zn_vb0, zn_vb1, zn_b1, zn_b0, zn_d1, zn_d0, zn_e1, zn_e0, zn_wN, zn_wB1, zn_wB0, zn_wO, zn_wOd, zn_wO0, zn_wE, zn_wEe, zn_wE0, zn_leT, zn_leF, zn_ltT, zn_ltF, zn_eqF, zn_eqT, zn_lt0, zn_0le, zn_d2a, zn_d2b, zn_e1a, zn_e1b, zn_10, zn_00, zn_sh4, zn_an15, true_imp_iff, false_imp_iff, imp_true_iff, not_true_eq_false, not_false_eq_true, zn_gT4, zn_gF4, zn_gT8, zn_gF8, zn_gT12, zn_gF12, zn_gT48, zn_gF48, zn_gT124, zn_gF124, zn_gT128, zn_gF128, zn_gT560, zn_gF560, zn_lT7, zn_lF7, zn_lT120, zn_lF120, zn_qT7, zn_qF7, zn_qT120, zn_qF120, zn_qT0, zn_qF0, zn_qT1, zn_qF1, zn_hT0, zn_hF0, zn_hT7, zn_hF7, zn_sb, pk_us, zn_us]
      exact hp
    | true =>
      rw [if_neg (by rw [hq]; decide)] at hp
      simp (disch := omega) only [zn_k4, zn_k8, zn_k16, zn_k32, zn_m16, zn_a64, zn_a128, nI_add, nI_1, nI_clamp, vp_in_nI, true_and, and_true, forall_eq, zn_rN, zn_rB, zn_rO, zn_rE, zn_vb0, zn_vb1, zn_b1, zn_b0, zn_d1, zn_d0, zn_e1, zn_e0, zn_wN, zn_wB1, zn_wB0, zn_wO, zn_wOd, zn_wO0, zn_wE, zn_wEe, zn_wE0, zn_leT, zn_leF, zn_ltT, zn_ltF, zn_eqF, zn_eqT, zn_lt0, zn_0le, zn_d2a, zn_d2b, zn_e1a, zn_e1b, zn_10, zn_00, zn_sh4, zn_an15, true_imp_iff, false_imp_iff, imp_true_iff, not_true_eq_false, not_false_eq_true, zn_gT4, zn_gF4, zn_gT8, zn_gF8, zn_gT12, zn_gF12, zn_gT48, zn_gF48, zn_gT124, zn_gF124, zn_gT128, zn_gF128, zn_gT560, zn_gF560, zn_lT7, zn_lF7, zn_lT120, zn_lF120, zn_qT7, zn_qF7, zn_qT120, zn_qF120, zn_qT0, zn_qF0, zn_qT1, zn_qF1, zn_hT0, zn_hF0, zn_hT7, zn_hF7, zn_sb, pk_us, zn_us, pk_m1]
      exact ih (by omega) hp
theorem zx_sound {post : Int32 → Prop} {r : Nat} (hn : n ≤ 4) (hr : r < 4) (hxp : ∀ j, xp j ≤ 128) (hxl : ∀ j, xl j ≤ 16) (hix : ∀ j, ix j ≤ 12) (hp : post (nI (zf_last (fun j => !zq_orph xp xl n r (r * 16 + j)) (ix r)))) : wpX_lastSound post (nI n, nI sc, nI lm, nI sv, nI rl, nI bg, zc_B xup, zc_N ix, zc_N ic, zc_N st, un, rp, dc, xv, zc_B xs, zc_N xo, xrs, xrr, xra, zc_O xp, zc_O xt, xss, sr, sa, zc_N en, zc_N xk, zc_N xl, zc_E xm, op, ol, ov) (nI r) := by
  have hm := hix r
  unfold wpX_lastSound
  simp (disch := omega) only [zn_k4, zn_k8, zn_k16, zn_k32, zn_m16, zn_a64, zn_a128, nI_add, nI_1, nI_clamp, vp_in_nI, true_and, and_true, forall_eq, zn_rN, zn_rB, zn_rO, zn_rE, zn_vb0, zn_vb1, zn_b1, zn_b0, zn_d1, zn_d0, zn_e1, zn_e0, zn_wN, zn_wB1, zn_wB0, zn_wO, zn_wOd, zn_wO0, zn_wE, zn_wEe, zn_wE0, zn_leT, zn_leF, zn_ltT, zn_ltF, zn_eqF, zn_eqT, zn_lt0, zn_0le, zn_d2a, zn_d2b, zn_e1a, zn_e1b, zn_10, zn_00, zn_sh4, zn_an15, true_imp_iff, false_imp_iff, imp_true_iff, not_true_eq_false, not_false_eq_true, zn_gT4, zn_gF4, zn_gT8, zn_gF8, zn_gT12, zn_gF12, zn_gT48, zn_gF48, zn_gT124, zn_gF124, zn_gT128, zn_gF128, zn_gT560, zn_gF560, zn_lT7, zn_lF7, zn_lT120, zn_lF120, zn_qT7, zn_qF7, zn_qT120, zn_qF120, zn_qT0, zn_qF0, zn_qT1, zn_qF1, zn_hT0, zn_hF0, zn_hT7, zn_hF7, zn_sb, pk_us, zn_us]
  exact ⟨ix r + 1, zx_sound_l hn hr hxp hxl (ix r) hm hp⟩
theorem zx_marked {post : Int32 → Prop} {r x c : Nat} (hr : r < 4) (hx : x < 4) (hc : c < 128) (hxm : ∀ j, xm j ≤ 13) (hp : post (zc_b (decide (c % 16 < xm ((r * 4 + x) * 8 + c / 16))))) : wpX_isMarked post (nI n, nI sc, nI lm, nI sv, nI rl, nI bg, zc_B xup, zc_N ix, zc_N ic, zc_N st, un, rp, dc, xv, zc_B xs, zc_N xo, xrs, xrr, xra, zc_O xp, zc_O xt, xss, sr, sa, zc_N en, zc_N xk, zc_N xl, zc_E xm, op, ol, ov) (nI r) (nI x) (nI c) := by
  have hm := hxm ((r * 4 + x) * 8 + c / 16)
  have hd := zn_elt (xm ((r * 4 + x) * 8 + c / 16)) (c % 16) (by omega) (by omega)
  unfold wpX_isMarked
  by_cases h : c % 16 < xm ((r * 4 + x) * 8 + c / 16)
  · rw [decide_eq_true h] at hp
    simp (disch := omega) only [zn_k4, zn_k8, zn_k16, zn_k32, zn_m16, zn_a64, zn_a128, nI_add, nI_1, nI_clamp, vp_in_nI, true_and, and_true, forall_eq, zn_rN, zn_rB, zn_rO, zn_rE, zn_vb0, zn_vb1, zn_b1, zn_b0, zn_d1, zn_d0, zn_e1, zn_e0, zn_wN, zn_wB1, zn_wB0, zn_wO, zn_wOd, zn_wO0, zn_wE, zn_wEe, zn_wE0, zn_leT, zn_leF, zn_ltT, zn_ltF, zn_eqF, zn_eqT, zn_lt0, zn_0le, zn_d2a, zn_d2b, zn_e1a, zn_e1b, zn_10, zn_00, zn_sh4, zn_an15, true_imp_iff, false_imp_iff, imp_true_iff, not_true_eq_false, not_false_eq_true, zn_gT4, zn_gF4, zn_gT8, zn_gF8, zn_gT12, zn_gF12, zn_gT48, zn_gF48, zn_gT124, zn_gF124, zn_gT128, zn_gF128, zn_gT560, zn_gF560, zn_lT7, zn_lF7, zn_lT120, zn_lF120, zn_qT7, zn_qF7, zn_qT120, zn_qF120, zn_qT0, zn_qF0, zn_qT1, zn_qF1, zn_hT0, zn_hF0, zn_hT7, zn_hF7, zn_sb, pk_us, zn_us, eq_false (fun z => absurd (hd.mp z) (by omega))]
    exact hp
  · rw [decide_eq_false h] at hp
    simp (disch := omega) only [zn_k4, zn_k8, zn_k16, zn_k32, zn_m16, zn_a64, zn_a128, nI_add, nI_1, nI_clamp, vp_in_nI, true_and, and_true, forall_eq, zn_rN, zn_rB, zn_rO, zn_rE, zn_vb0, zn_vb1, zn_b1, zn_b0, zn_d1, zn_d0, zn_e1, zn_e0, zn_wN, zn_wB1, zn_wB0, zn_wO, zn_wOd, zn_wO0, zn_wE, zn_wEe, zn_wE0, zn_leT, zn_leF, zn_ltT, zn_ltF, zn_eqF, zn_eqT, zn_lt0, zn_0le, zn_d2a, zn_d2b, zn_e1a, zn_e1b, zn_10, zn_00, zn_sh4, zn_an15, true_imp_iff, false_imp_iff, imp_true_iff, not_true_eq_false, not_false_eq_true, zn_gT4, zn_gF4, zn_gT8, zn_gF8, zn_gT12, zn_gF12, zn_gT48, zn_gF48, zn_gT124, zn_gF124, zn_gT128, zn_gF128, zn_gT560, zn_gF560, zn_lT7, zn_lF7, zn_lT120, zn_lF120, zn_qT7, zn_qF7, zn_qT120, zn_qF120, zn_qT0, zn_qF0, zn_qT1, zn_qF1, zn_hT0, zn_hF0, zn_hT7, zn_hF7, zn_sb, pk_us, zn_us, eq_true (hd.mpr (by omega))]
    exact hp
theorem zx_others_l {post : Int32 → Prop} {r v : Nat} (hn : n ≤ 4) (hr : r < 4) (hv : v < 140) (hxp : ∀ j, xp j ≤ 128) (hxm : ∀ j, xm j ≤ 13) : ∀ d x, x + d = n → post (zc_b (!zf_ex (zq_ml xp xm r v) d x)) → wX_othersMarked_2 post (nI r) (nI v) (nI n) (nI sc) (nI lm) (nI sv) (nI rl) (nI bg) (zc_B xup) (zc_N ix) (zc_N ic) (zc_N st) un rp dc xv (zc_B xs) (zc_N xo) xrs xrr xra (zc_O xp) (zc_O xt) xss sr sa (zc_N en) (zc_N xk) (zc_N xl) (zc_E xm) op ol ov (d + 1) (nI x) := by
  intro d
  induction d with
  | zero =>
    intro x h hp
    obtain rfl : x = n := by omega
    exact br_t (nI_le (Nat.le_refl _) (by omega)) hp
  | succ d ih =>
    intro x h hp
    have hb := hxp (v * 4 + x)
    rw [zf_ex_s] at hp
    by_cases hxr : x = r
    · rw [if_neg (by unfold zq_ml; rw [decide_eq_true_eq]; exact fun z => z.1 hxr)] at hp
      rw [wX_othersMarked_2]
      simp (disch := omega) only [zn_k4, zn_k8, zn_k16, zn_k32, zn_m16, zn_a64, zn_a128, nI_add, nI_1, nI_clamp, vp_in_nI, true_and, and_true, forall_eq, zn_rN, zn_rB, zn_rO, zn_rE, zn_vb0, zn_vb1, zn_b1, zn_b0, zn_d1, zn_d0, zn_e1, zn_e0, zn_wN, zn_wB1, zn_wB0, zn_wO, zn_wOd, zn_wO0, zn_wE, zn_wEe, zn_wE0, zn_leT, zn_leF, zn_ltT, zn_ltF, zn_eqF, zn_eqT, zn_lt0, zn_0le, zn_d2a, zn_d2b, zn_e1a, zn_e1b, zn_10, zn_00, zn_sh4, zn_an15, true_imp_iff, false_imp_iff, imp_true_iff, not_true_eq_false, not_false_eq_true, zn_gT4, zn_gF4, zn_gT8, zn_gF8, zn_gT12, zn_gF12, zn_gT48, zn_gF48, zn_gT124, zn_gF124, zn_gT128, zn_gF128, zn_gT560, zn_gF560, zn_lT7, zn_lF7, zn_lT120, zn_lF120, zn_qT7, zn_qF7, zn_qT120, zn_qF120, zn_qT0, zn_qF0, zn_qT1, zn_qF1, zn_hT0, zn_hF0, zn_hT7, zn_hF7, zn_sb, pk_us, zn_us]
      exact ih (x + 1) (by omega) hp
    · by_cases hq : xp (v * 4 + x) = 0
      · rw [if_neg (by unfold zq_ml; rw [decide_eq_true_eq]; exact fun z => z.2.1 hq)] at hp
        rw [wX_othersMarked_2]
        simp (disch := omega) only [zn_k4, zn_k8, zn_k16, zn_k32, zn_m16, zn_a64, zn_a128, nI_add, nI_1, nI_clamp, vp_in_nI, true_and, and_true, forall_eq, zn_rN, zn_rB, zn_rO, zn_rE, zn_vb0, zn_vb1, zn_b1, zn_b0, zn_d1, zn_d0, zn_e1, zn_e0, zn_wN, zn_wB1, zn_wB0, zn_wO, zn_wOd, zn_wO0, zn_wE, zn_wEe, zn_wE0, zn_leT, zn_leF, zn_ltT, zn_ltF, zn_eqF, zn_eqT, zn_lt0, zn_0le, zn_d2a, zn_d2b, zn_e1a, zn_e1b, zn_10, zn_00, zn_sh4, zn_an15, true_imp_iff, false_imp_iff, imp_true_iff, not_true_eq_false, not_false_eq_true, zn_gT4, zn_gF4, zn_gT8, zn_gF8, zn_gT12, zn_gF12, zn_gT48, zn_gF48, zn_gT124, zn_gF124, zn_gT128, zn_gF128, zn_gT560, zn_gF560, zn_lT7, zn_lF7, zn_lT120, zn_lF120, zn_qT7, zn_qF7, zn_qT120, zn_qF120, zn_qT0, zn_qF0, zn_qT1, zn_qF1, zn_hT0, zn_hF0, zn_hT7, zn_hF7, zn_sb, pk_us, zn_us, hq]
        exact ih (x + 1) (by omega) hp
      · obtain ⟨c, hc⟩ : ∃ c, xp (v * 4 + x) = c + 1 := ⟨xp (v * 4 + x) - 1, by omega⟩
        unfold zq_ml at hp
        rw [hc, Nat.add_sub_cancel] at hp
        rw [wX_othersMarked_2]
        simp (disch := omega) only [zn_k4, zn_k8, zn_k16, zn_k32, zn_m16, zn_a64, zn_a128, nI_add, nI_1, nI_clamp, vp_in_nI, true_and, and_true, forall_eq, zn_rN, zn_rB, zn_rO, zn_rE, zn_vb0, zn_vb1, zn_b1, zn_b0, zn_d1, zn_d0, zn_e1, zn_e0, zn_wN, zn_wB1, zn_wB0, zn_wO, zn_wOd, zn_wO0, zn_wE, zn_wEe, zn_wE0, zn_leT, zn_leF, zn_ltT, zn_ltF, zn_eqF, zn_eqT, zn_lt0, zn_0le, zn_d2a, zn_d2b, zn_e1a, zn_e1b, zn_10, zn_00, zn_sh4, zn_an15, true_imp_iff, false_imp_iff, imp_true_iff, not_true_eq_false, not_false_eq_true, zn_gT4, zn_gF4, zn_gT8, zn_gF8, zn_gT12, zn_gF12, zn_gT48, zn_gF48, zn_gT124, zn_gF124, zn_gT128, zn_gF128, zn_gT560, zn_gF560, zn_lT7, zn_lF7, zn_lT120, zn_lF120, zn_qT7, zn_qF7, zn_qT120, zn_qF120, zn_qT0, zn_qF0, zn_qT1, zn_qF1, zn_hT0, zn_hF0, zn_hT7, zn_hF7, zn_sb, pk_us, zn_us, hc]
        refine zx_marked hr (by omega) (by omega) hxm ?_
        by_cases hz : c % 16 < xm ((r * 4 + x) * 8 + c / 16)
        · rw [if_neg (by rw [decide_eq_true_eq]; exact fun z => absurd z.2.2 (by omega))] at hp
          rw [decide_eq_true hz]
          simp (disch := omega) only [zn_k4, zn_k8, zn_k16, zn_k32, zn_m16, zn_a64, zn_a128, nI_add, nI_1, nI_clamp, vp_in_nI, true_and, and_true, forall_eq, zn_rN, zn_rB, zn_rO, zn_rE, zn_vb0, zn_vb1, zn_b1, zn_b0, zn_d1, zn_d0, zn_e1, zn_e0, zn_wN, zn_wB1, zn_wB0, zn_wO, zn_wOd, zn_wO0, zn_wE, zn_wEe, zn_wE0, zn_leT, zn_leF, zn_ltT, zn_ltF, zn_eqF, zn_eqT, zn_lt0, zn_0le, zn_d2a, zn_d2b, zn_e1a, zn_e1b, zn_10, zn_00, zn_sh4, zn_an15, true_imp_iff, false_imp_iff, imp_true_iff, not_true_eq_false, not_false_eq_true, zn_gT4, zn_gF4, zn_gT8, zn_gF8, zn_gT12, zn_gF12, zn_gT48, zn_gF48, zn_gT124, zn_gF124, zn_gT128, zn_gF128, zn_gT560, zn_gF560, zn_lT7, zn_lF7, zn_lT120, zn_lF120, zn_qT7, zn_qF7, zn_qT120, zn_qF120, zn_qT0, zn_qF0, zn_qT1, zn_qF1, zn_hT0, zn_hF0, zn_hT7, zn_hF7, zn_sb, pk_us, zn_us]
          exact ih (x + 1) (by omega) hp
        · rw [if_pos (decide_eq_true ⟨hxr, by omega, by omega⟩)] at hp
          rw [decide_eq_false hz]
          simp (disch := omega) only [zn_k4, zn_k8, zn_k16, zn_k32, zn_m16, zn_a64, zn_a128, nI_add, nI_1, nI_clamp, vp_in_nI, true_and, and_true, forall_eq, zn_rN, zn_rB, zn_rO, zn_rE, zn_vb0, zn_vb1, zn_b1, zn_b0, zn_d1, zn_d0, zn_e1, zn_e0, zn_wN, zn_wB1, zn_wB0, zn_wO, zn_wOd, zn_wO0, zn_wE, zn_wEe, zn_wE0, zn_leT, zn_leF, zn_ltT, zn_ltF, zn_eqF, zn_eqT, zn_lt0, zn_0le, zn_d2a, zn_d2b, zn_e1a, zn_e1b, zn_10, zn_00, zn_sh4, zn_an15, true_imp_iff, false_imp_iff, imp_true_iff, not_true_eq_false, not_false_eq_true, zn_gT4, zn_gF4, zn_gT8, zn_gF8, zn_gT12, zn_gF12, zn_gT48, zn_gF48, zn_gT124, zn_gF124, zn_gT128, zn_gF128, zn_gT560, zn_gF560, zn_lT7, zn_lF7, zn_lT120, zn_lF120, zn_qT7, zn_qF7, zn_qT120, zn_qF120, zn_qT0, zn_qF0, zn_qT1, zn_qF1, zn_hT0, zn_hF0, zn_hT7, zn_hF7, zn_sb, pk_us, zn_us]
          exact hp
theorem zx_others {post : Int32 → Prop} {r v : Nat} (hn : n ≤ 4) (hr : r < 4) (hv : v < 140) (hxp : ∀ j, xp j ≤ 128) (hxm : ∀ j, xm j ≤ 13) (hp : post (zc_b (zq_mark xp xm n r v))) : wpX_othersMarked post (nI n, nI sc, nI lm, nI sv, nI rl, nI bg, zc_B xup, zc_N ix, zc_N ic, zc_N st, un, rp, dc, xv, zc_B xs, zc_N xo, xrs, xrr, xra, zc_O xp, zc_O xt, xss, sr, sa, zc_N en, zc_N xk, zc_N xl, zc_E xm, op, ol, ov) (nI r) (nI v) := ⟨n + 1, zx_others_l hn hr hv hxp hxm n 0 (by omega) hp⟩
end
end
section
/-! the component's storing methods -/
def zl_ln (f : Nat → Nat) (B c e : Nat) : Nat → Nat := fun j => if (B ≤ j ∧ j < B + c) ∧ e < f j then e else f j
theorem zl_ln0 (f : Nat → Nat) (B e : Nat) : zl_ln f B 0 e = f := by
  funext j; exact if_neg (fun h => absurd h.1 (by omega))
theorem zl_lnr (f : Nat → Nat) (B c e : Nat) : zl_ln f B c e (B + c) = f (B + c) := if_neg (fun h => absurd h.1 (by omega))
theorem zl_lns0 (f : Nat → Nat) {B c e : Nat} (h : f (B + c) ≤ e) : zl_ln f B c e = zl_ln f B (c + 1) e := by
  funext j
  unfold zl_ln
  by_cases hj : j = B + c
  · subst hj
    rw [if_neg (fun z => absurd z.1 (by omega)), if_neg (fun z => absurd z.2 (by omega))]
  · by_cases h2 : (B ≤ j ∧ j < B + c) ∧ e < f j
    · rw [if_pos h2, if_pos ⟨by omega, h2.2⟩]
    · rw [if_neg h2, if_neg (fun z => h2 ⟨by omega, z.2⟩)]
theorem zl_lns1 (f : Nat → Nat) {B c e : Nat} (h : e < f (B + c)) : zc_u (zl_ln f B c e) (B + c) e = zl_ln f B (c + 1) e := by
  funext j
  unfold zl_ln zc_u
  by_cases hj : j = B + c
  · subst hj
    rw [if_pos rfl, if_pos ⟨by omega, h⟩]
  · rw [if_neg hj]
    dsimp only
    by_cases h2 : (B ≤ j ∧ j < B + c) ∧ e < f j
    · rw [if_pos h2, if_pos ⟨by omega, h2.2⟩]
    · rw [if_neg h2, if_neg (fun z => h2 ⟨by omega, z.2⟩)]
theorem zl_lnb {f : Nat → Nat} {M : Nat} (h : ∀ j, f j ≤ M) (B c e : Nat) : ∀ j, zl_ln f B c e j ≤ M := by
  intro j
  have := h j
  unfold zl_ln
  split <;> omega
def zd_7 (r : Int32) : Nat := r.toBitVec.toNat % 8
theorem zd_7e (r : Int32) : r &&& 7 = nI (zd_7 r) := pk_and r 3 (by decide)
theorem zd_7l (r : Int32) : zd_7 r < 8 := Nat.mod_lt _ (by decide)
def zd_dst (d p n : Nat) : Nat := if 1 ≤ d ∧ d ≤ 4 then (if d - 1 < n then d else 0) else if d = 6 then (if p + 1 = n then 1 else p + 2) else 0
def zd_sh (r : Int32) : Int32 := (r.toUInt32 >>> ((3 : Int32).toUInt32 &&& Int32.toUInt32 31)).toInt32
def zd_out (d : Nat) (f : Nat → Nat) (v : Nat) : Nat → Nat := if d = 5 ∨ d = 6 then zc_u f v 1 else f
section
variable {n sc lm sv rl bg : Nat} {xup xs : Nat → Bool} {ix ic st xo xp xt en xk xl xm : Nat → Nat} {un rp dc xv xrs xrr xra xss sr sa op ol ov : Nat → Int32}
theorem zx_learn_l {post : SX → Prop} {r x k e : Nat} (hr : r < 4) (hx : x < 4) (hk : k < 8) (he : e ≤ 12) (hxl : ∀ j, xl j ≤ 16) (hp : post (nI n, nI sc, nI lm, nI sv, nI rl, nI bg, zc_B xup, zc_N ix, zc_N ic, zc_N st, un, rp, dc, xv, zc_B xs, zc_N xo, xrs, xrr, xra, zc_O xp, zc_O xt, xss, sr, sa, zc_N en, zc_N xk, zc_N (zl_ln xl ((r * 4 + x) * 8) (k + 1) e), zc_E xm, op, ol, ov)) : ∀ d a, a + d = k + 1 → wX_learn_19 post (nI r) (nI x) (nI k) (nI e) (nI n) (nI sc) (nI lm) (nI sv) (nI rl) (nI bg) (d + 1) (nI a) (zc_B xup) (zc_N ix) (zc_N ic) (zc_N st) un rp dc xv (zc_B xs) (zc_N xo) xrs xrr xra (zc_O xp) (zc_O xt) xss sr sa (zc_N en) (zc_N xk) (zc_N (zl_ln xl ((r * 4 + x) * 8) a e)) (zc_E xm) op ol ov := by
  intro d
  induction d with
  | zero =>
    intro a h
    obtain rfl : a = k + 1 := by omega
    exact br_t (nI_lt (by omega) (by omega)) hp
  | succ d ih =>
    intro a h
    have hl := hxl ((r * 4 + x) * 8 + a)
    have hm := ih (a + 1) (by omega)
    by_cases hz : xl ((r * 4 + x) * 8 + a) ≤ e
    · rw [← zl_lns0 xl hz] at hm
      rw [wX_learn_19]
      simp (disch := omega) only [zn_k4, zn_k8, zn_k16, zn_k32, zn_m16, zn_a64, zn_a128, nI_add, nI_1, nI_clamp, vp_in_nI, true_and, and_true, forall_eq, zn_rN, zn_rB, zn_rO, zn_rE, zn_vb0, zn_vb1, zn_b1, zn_b0, zn_d1, zn_d0, zn_e1, zn_e0, zn_wN, zn_wB1, zn_wB0, zn_wO, zn_wOd, zn_wO0, zn_wE, zn_wEe, zn_wE0, zn_leT, zn_leF, zn_ltT, zn_ltF, zn_eqF, zn_eqT, zn_lt0, zn_0le, zn_d2a, zn_d2b, zn_e1a, zn_e1b, zn_10, zn_00, zn_sh4, zn_an15, true_imp_iff, false_imp_iff, imp_true_iff, not_true_eq_false, not_false_eq_true, zn_gT4, zn_gF4, zn_gT8, zn_gF8, zn_gT12, zn_gF12, zn_gT48, zn_gF48, zn_gT124, zn_gF124, zn_gT128, zn_gF128, zn_gT560, zn_gF560, zn_lT7, zn_lF7, zn_lT120, zn_lF120, zn_qT7, zn_qF7, zn_qT120, zn_qF120, zn_qT0, zn_qF0, zn_qT1, zn_qF1, zn_hT0, zn_hF0, zn_hT7, zn_hF7, zn_sb, pk_us, zn_us, zl_lnr]
      exact hm
    · rw [wX_learn_19]
      simp (disch := omega) only [zn_k4, zn_k8, zn_k16, zn_k32, zn_m16, zn_a64, zn_a128, nI_add, nI_1, nI_clamp, vp_in_nI, true_and, and_true, forall_eq, zn_rN, zn_rB, zn_rO, zn_rE, zn_vb0, zn_vb1, zn_b1, zn_b0, zn_d1, zn_d0, zn_e1, zn_e0, zn_wN, zn_wB1, zn_wB0, zn_wO, zn_wOd, zn_wO0, zn_wE, zn_wEe, zn_wE0, zn_leT, zn_leF, zn_ltT, zn_ltF, zn_eqF, zn_eqT, zn_lt0, zn_0le, zn_d2a, zn_d2b, zn_e1a, zn_e1b, zn_10, zn_00, zn_sh4, zn_an15, true_imp_iff, false_imp_iff, imp_true_iff, not_true_eq_false, not_false_eq_true, zn_gT4, zn_gF4, zn_gT8, zn_gF8, zn_gT12, zn_gF12, zn_gT48, zn_gF48, zn_gT124, zn_gF124, zn_gT128, zn_gF128, zn_gT560, zn_gF560, zn_lT7, zn_lF7, zn_lT120, zn_lF120, zn_qT7, zn_qF7, zn_qT120, zn_qF120, zn_qT0, zn_qF0, zn_qT1, zn_qF1, zn_hT0, zn_hF0, zn_hT7, zn_hF7, zn_sb, pk_us, zn_us, zl_lnr, zl_lns1 xl (Nat.lt_of_not_le hz)]
      exact hm
theorem zx_learn {post : SX → Prop} {r x k e : Nat} (hr : r < 4) (hx : x < 4) (hk : k < 8) (he : e ≤ 12) (hxl : ∀ j, xl j ≤ 16) (hp : post (nI n, nI sc, nI lm, nI sv, nI rl, nI bg, zc_B xup, zc_N ix, zc_N ic, zc_N st, un, rp, dc, xv, zc_B xs, zc_N xo, xrs, xrr, xra, zc_O xp, zc_O xt, xss, sr, sa, zc_N en, zc_N (zc_u xk (r * 4 + x) (xk (r * 4 + x) ||| 2 ^ k)), zc_N (zl_ln xl ((r * 4 + x) * 8) (k + 1) e), zc_E xm, op, ol, ov)) : wpX_learn post (nI n, nI sc, nI lm, nI sv, nI rl, nI bg, zc_B xup, zc_N ix, zc_N ic, zc_N st, un, rp, dc, xv, zc_B xs, zc_N xo, xrs, xrr, xra, zc_O xp, zc_O xt, xss, sr, sa, zc_N en, zc_N xk, zc_N xl, zc_E xm, op, ol, ov) (nI r) (nI x) (nI k) (nI e) := by
  unfold wpX_learn
  simp (disch := omega) only [zn_k4, zn_k8, zn_k16, zn_k32, zn_m16, zn_a64, zn_a128, nI_add, nI_1, nI_clamp, vp_in_nI, true_and, and_true, forall_eq, zn_rN, zn_rB, zn_rO, zn_rE, zn_vb0, zn_vb1, zn_b1, zn_b0, zn_d1, zn_d0, zn_e1, zn_e0, zn_wN, zn_wB1, zn_wB0, zn_wO, zn_wOd, zn_wO0, zn_wE, zn_wEe, zn_wE0, zn_leT, zn_leF, zn_ltT, zn_ltF, zn_eqF, zn_eqT, zn_lt0, zn_0le, zn_d2a, zn_d2b, zn_e1a, zn_e1b, zn_10, zn_00, zn_sh4, zn_an15, true_imp_iff, false_imp_iff, imp_true_iff, not_true_eq_false, not_false_eq_true, zn_gT4, zn_gF4, zn_gT8, zn_gF8, zn_gT12, zn_gF12, zn_gT48, zn_gF48, zn_gT124, zn_gF124, zn_gT128, zn_gF128, zn_gT560, zn_gF560, zn_lT7, zn_lF7, zn_lT120, zn_lF120, zn_qT7, zn_qF7, zn_qT120, zn_qF120, zn_qT0, zn_qF0, zn_qT1, zn_qF1, zn_hT0, zn_hF0, zn_hT7, zn_hF7, zn_sb, pk_us, zn_us, zn_1k k hk, zn_or]
  have h := zx_learn_l hr hx hk he hxl hp (k + 1) 0 (by omega)
  rw [zl_ln0] at h
  exact ⟨k + 2, h⟩
theorem zx_recEnd {post : SX → Prop} {p : Nat} (hp4 : p < 4) (hic : ic p < 7) (hix : ix p ≤ 12) (hxl : ∀ j, xl j ≤ 16) (hp : post (nI n, nI sc, nI lm, nI sv, nI rl, nI bg, zc_B xup, zc_N ix, zc_N (zc_u ic p (ic p + 1)), zc_N st, un, rp, dc, xv, zc_B xs, zc_N xo, xrs, xrr, xra, zc_O xp, zc_O xt, xss, sr, sa, zc_N (zc_u en (p * 8 + ic p) (ix p)), zc_N (zc_u xk (p * 4 + p) (xk (p * 4 + p) ||| 2 ^ ic p)), zc_N (zl_ln xl ((p * 4 + p) * 8) (ic p + 1) (ix p)), zc_E xm, op, ol, ov)) : wpX_recordEnd post (nI n, nI sc, nI lm, nI sv, nI rl, nI bg, zc_B xup, zc_N ix, zc_N ic, zc_N st, un, rp, dc, xv, zc_B xs, zc_N xo, xrs, xrr, xra, zc_O xp, zc_O xt, xss, sr, sa, zc_N en, zc_N xk, zc_N xl, zc_E xm, op, ol, ov) (nI p) := by
  unfold wpX_recordEnd
  simp (disch := omega) only [zn_k4, zn_k8, zn_k16, zn_k32, zn_m16, zn_a64, zn_a128, nI_add, nI_1, nI_clamp, vp_in_nI, true_and, and_true, forall_eq, zn_rN, zn_rB, zn_rO, zn_rE, zn_vb0, zn_vb1, zn_b1, zn_b0, zn_d1, zn_d0, zn_e1, zn_e0, zn_wN, zn_wB1, zn_wB0, zn_wO, zn_wOd, zn_wO0, zn_wE, zn_wEe, zn_wE0, zn_leT, zn_leF, zn_ltT, zn_ltF, zn_eqF, zn_eqT, zn_lt0, zn_0le, zn_d2a, zn_d2b, zn_e1a, zn_e1b, zn_10, zn_00, zn_sh4, zn_an15, true_imp_iff, false_imp_iff, imp_true_iff, not_true_eq_false, not_false_eq_true, zn_gT4, zn_gF4, zn_gT8, zn_gF8, zn_gT12, zn_gF12, zn_gT48, zn_gF48, zn_gT124, zn_gF124, zn_gT128, zn_gF128, zn_gT560, zn_gF560, zn_lT7, zn_lF7, zn_lT120, zn_lF120, zn_qT7, zn_qF7, zn_qT120, zn_qF120, zn_qT0, zn_qF0, zn_qT1, zn_qF1, zn_hT0, zn_hF0, zn_hT7, zn_hF7, zn_sb, pk_us, zn_us]
  refine zx_learn hp4 hp4 (by omega) hix hxl ?_
  simp (disch := omega) only [zn_k4, zn_k8, zn_k16, zn_k32, zn_m16, zn_a64, zn_a128, nI_add, nI_1, nI_clamp, vp_in_nI, true_and, and_true, forall_eq, zn_rN, zn_rB, zn_rO, zn_rE, zn_vb0, zn_vb1, zn_b1, zn_b0, zn_d1, zn_d0, zn_e1, zn_e0, zn_wN, zn_wB1, zn_wB0, zn_wO, zn_wOd, zn_wO0, zn_wE, zn_wEe, zn_wE0, zn_leT, zn_leF, zn_ltT, zn_ltF, zn_eqF, zn_eqT, zn_lt0, zn_0le, zn_d2a, zn_d2b, zn_e1a, zn_e1b, zn_10, zn_00, zn_sh4, zn_an15, true_imp_iff, false_imp_iff, imp_true_iff, not_true_eq_false, not_false_eq_true, zn_gT4, zn_gF4, zn_gT8, zn_gF8, zn_gT12, zn_gF12, zn_gT48, zn_gF48, zn_gT124, zn_gF124, zn_gT128, zn_gF128, zn_gT560, zn_gF560, zn_lT7, zn_lF7, zn_lT120, zn_lF120, zn_qT7, zn_qF7, zn_qT120, zn_qF120, zn_qT0, zn_qF0, zn_qT1, zn_qF1, zn_hT0, zn_hF0, zn_hT7, zn_hF7, zn_sb, pk_us, zn_us]
  exact hp
theorem zx_cut {post : SX → Prop} {p i : Nat} (hp4 : p < 4) (hi : i ≤ ix p) (hix : ix p ≤ 12) (hst : st p ≤ 12) (hp : post (nI n, nI sc, nI lm, nI sv, nI rl, nI bg, zc_B xup, zc_N (zc_u ix p i), zc_N ic, zc_N (if st p ≤ i then st else zc_u st p i), (upd un p (un p + nI (ix p - i))), rp, dc, xv, zc_B xs, zc_N xo, xrs, xrr, xra, zc_O xp, zc_O xt, xss, sr, sa, zc_N en, zc_N xk, zc_N xl, zc_E xm, op, ol, ov)) : wpX_cut post (nI n, nI sc, nI lm, nI sv, nI rl, nI bg, zc_B xup, zc_N ix, zc_N ic, zc_N st, un, rp, dc, xv, zc_B xs, zc_N xo, xrs, xrr, xra, zc_O xp, zc_O xt, xss, sr, sa, zc_N en, zc_N xk, zc_N xl, zc_E xm, op, ol, ov) (nI p) (nI i) := by
  unfold wpX_cut
  by_cases h : st p ≤ i
  · rw [if_pos h] at hp
    simp (disch := omega) only [zn_k4, zn_k8, zn_k16, zn_k32, zn_m16, zn_a64, zn_a128, nI_add, nI_1, nI_clamp, vp_in_nI, true_and, and_true, forall_eq, zn_rN, zn_rB, zn_rO, zn_rE, zn_vb0, zn_vb1, zn_b1, zn_b0, zn_d1, zn_d0, zn_e1, zn_e0, zn_wN, zn_wB1, zn_wB0, zn_wO, zn_wOd, zn_wO0, zn_wE, zn_wEe, zn_wE0, zn_leT, zn_leF, zn_ltT, zn_ltF, zn_eqF, zn_eqT, zn_lt0, zn_0le, zn_d2a, zn_d2b, zn_e1a, zn_e1b, zn_10, zn_00, zn_sh4, zn_an15, true_imp_iff, false_imp_iff, imp_true_iff, not_true_eq_false, not_false_eq_true, zn_gT4, zn_gF4, zn_gT8, zn_gF8, zn_gT12, zn_gF12, zn_gT48, zn_gF48, zn_gT124, zn_gF124, zn_gT128, zn_gF128, zn_gT560, zn_gF560, zn_lT7, zn_lF7, zn_lT120, zn_lF120, zn_qT7, zn_qF7, zn_qT120, zn_qF120, zn_qT0, zn_qF0, zn_qT1, zn_qF1, zn_hT0, zn_hF0, zn_hT7, zn_hF7, zn_sb, pk_us, zn_us]
    exact hp
  · rw [if_neg h] at hp
    simp (disch := omega) only [zn_k4, zn_k8, zn_k16, zn_k32, zn_m16, zn_a64, zn_a128, nI_add, nI_1, nI_clamp, vp_in_nI, true_and, and_true, forall_eq, zn_rN, zn_rB, zn_rO, zn_rE, zn_vb0, zn_vb1, zn_b1, zn_b0, zn_d1, zn_d0, zn_e1, zn_e0, zn_wN, zn_wB1, zn_wB0, zn_wO, zn_wOd, zn_wO0, zn_wE, zn_wEe, zn_wE0, zn_leT, zn_leF, zn_ltT, zn_ltF, zn_eqF, zn_eqT, zn_lt0, zn_0le, zn_d2a, zn_d2b, zn_e1a, zn_e1b, zn_10, zn_00, zn_sh4, zn_an15, true_imp_iff, false_imp_iff, imp_true_iff, not_true_eq_false, not_false_eq_true, zn_gT4, zn_gF4, zn_gT8, zn_gF8, zn_gT12, zn_gF12, zn_gT48, zn_gF48, zn_gT124, zn_gF124, zn_gT128, zn_gF128, zn_gT560, zn_gF560, zn_lT7, zn_lF7, zn_lT120, zn_lF120, zn_qT7, zn_qF7, zn_qT120, zn_qF120, zn_qT0, zn_qF0, zn_qT1, zn_qF1, zn_hT0, zn_hF0, zn_hT7, zn_hF7, zn_sb, pk_us, zn_us]
    exact hp
theorem zx_replay {post : Int32 → SX → Prop} {p : Nat} (hp4 : p < 4) (hix : ∀ j, ix j ≤ 12) (hp : post (nI (ix p - zf_last (fun j => xs (p * 16 + j)) (ix p))) (nI n, nI sc, nI lm, nI sv, nI rl, nI bg, zc_B xup, zc_N ix, zc_N ic, zc_N st, un, (upd rp p (rp p + nI (ix p - zf_last (fun j => xs (p * 16 + j)) (ix p)))), dc, xv, zc_B xs, zc_N xo, xrs, xrr, xra, zc_O xp, zc_O xt, xss, sr, sa, zc_N en, zc_N xk, zc_N xl, zc_E xm, op, ol, ov)) : wpX_replay post (nI n, nI sc, nI lm, nI sv, nI rl, nI bg, zc_B xup, zc_N ix, zc_N ic, zc_N st, un, rp, dc, xv, zc_B xs, zc_N xo, xrs, xrr, xra, zc_O xp, zc_O xt, xss, sr, sa, zc_N en, zc_N xk, zc_N xl, zc_E xm, op, ol, ov) (nI p) := by
  have h1 := hix p
  have h2 := zf_last_le (fun j => xs (p * 16 + j)) (ix p)
  unfold wpX_replay
  simp (disch := omega) only [zn_k4, zn_k8, zn_k16, zn_k32, zn_m16, zn_a64, zn_a128, nI_add, nI_1, nI_clamp, vp_in_nI, true_and, and_true, forall_eq, zn_rN, zn_rB, zn_rO, zn_rE, zn_vb0, zn_vb1, zn_b1, zn_b0, zn_d1, zn_d0, zn_e1, zn_e0, zn_wN, zn_wB1, zn_wB0, zn_wO, zn_wOd, zn_wO0, zn_wE, zn_wEe, zn_wE0, zn_leT, zn_leF, zn_ltT, zn_ltF, zn_eqF, zn_eqT, zn_lt0, zn_0le, zn_d2a, zn_d2b, zn_e1a, zn_e1b, zn_10, zn_00, zn_sh4, zn_an15, true_imp_iff, false_imp_iff, imp_true_iff, not_true_eq_false, not_false_eq_true, zn_gT4, zn_gF4, zn_gT8, zn_gF8, zn_gT12, zn_gF12, zn_gT48, zn_gF48, zn_gT124, zn_gF124, zn_gT128, zn_gF128, zn_gT560, zn_gF560, zn_lT7, zn_lF7, zn_lT120, zn_lF120, zn_qT7, zn_qF7, zn_qT120, zn_qF120, zn_qT0, zn_qF0, zn_qT1, zn_qF1, zn_hT0, zn_hF0, zn_hT7, zn_hF7, zn_sb, pk_us, zn_us]
  refine zx_base hp4 hix ?_
  simp (disch := omega) only [zn_k4, zn_k8, zn_k16, zn_k32, zn_m16, zn_a64, zn_a128, nI_add, nI_1, nI_clamp, vp_in_nI, true_and, and_true, forall_eq, zn_rN, zn_rB, zn_rO, zn_rE, zn_vb0, zn_vb1, zn_b1, zn_b0, zn_d1, zn_d0, zn_e1, zn_e0, zn_wN, zn_wB1, zn_wB0, zn_wO, zn_wOd, zn_wO0, zn_wE, zn_wEe, zn_wE0, zn_leT, zn_leF, zn_ltT, zn_ltF, zn_eqF, zn_eqT, zn_lt0, zn_0le, zn_d2a, zn_d2b, zn_e1a, zn_e1b, zn_10, zn_00, zn_sh4, zn_an15, true_imp_iff, false_imp_iff, imp_true_iff, not_true_eq_false, not_false_eq_true, zn_gT4, zn_gF4, zn_gT8, zn_gF8, zn_gT12, zn_gF12, zn_gT48, zn_gF48, zn_gT124, zn_gF124, zn_gT128, zn_gF128, zn_gT560, zn_gF560, zn_lT7, zn_lF7, zn_lT120, zn_lF120, zn_qT7, zn_qF7, zn_qT120, zn_qF120, zn_qT0, zn_qF0, zn_qT1, zn_qF1, zn_hT0, zn_hF0, zn_hT7, zn_hF7, zn_sb, pk_us, zn_us]
  exact hp
theorem zx_act74 {post : SX → Prop} {p v t : Nat} (hp4 : p < 4) (hv : v < 64) (hn : n ≤ 4) (hsc : sc ≤ 12) (hxt : ∀ j, xt j ≤ 4) (ht : t < n) (h1 : zf_ff (fun s => decide (xt s = 0)) sc 0 = sc → post (nI n, nI sc, nI lm, nI sv, nI rl, nI bg, zc_B xup, zc_N ix, zc_N ic, zc_N st, un, rp, dc, xv, zc_B xs, zc_N xo, xrs, xrr, xra, zc_O xp, zc_O xt, xss, sr, sa, zc_N en, zc_N xk, zc_N xl, zc_E xm, op, ol, ov)) (h2 : ∀ s, s = zf_ff (fun s => decide (xt s = 0)) sc 0 → s < sc → post (nI n, nI sc, nI lm, nI sv, nI rl, nI bg, zc_B xup, zc_N ix, zc_N ic, zc_N st, un, rp, dc, xv, zc_B xs, zc_N xo, xrs, xrr, xra, zc_O (zv_cp xp v (128 + s) 4), zc_O (zc_u xt s (t + 1)), (upd xss s (nI p)), (upd sr s (zd_sh (xrr v))), (upd sa s (xv v)), zc_N en, zc_N xk, zc_N xl, zc_E xm, op, ol, ov)) : wX_act_74 post (nI p) (nI v) (nI t) (nI n) (nI sc) (nI lm) (nI sv) (nI rl) (nI bg) (zc_B xup) (zc_N ix) (zc_N ic) (zc_N st) un rp dc xv (zc_B xs) (zc_N xo) xrs xrr xra (zc_O xp) (zc_O xt) xss sr sa (zc_N en) (zc_N xk) (zc_N xl) (zc_E xm) op ol ov := by
  unfold wX_act_74
  simp (disch := omega) only [zn_k4, zn_k8, zn_k16, zn_k32, zn_m16, zn_a64, zn_a128, nI_add, nI_1, nI_clamp, vp_in_nI, true_and, and_true, forall_eq, zn_rN, zn_rB, zn_rO, zn_rE, zn_vb0, zn_vb1, zn_b1, zn_b0, zn_d1, zn_d0, zn_e1, zn_e0, zn_wN, zn_wB1, zn_wB0, zn_wO, zn_wOd, zn_wO0, zn_wE, zn_wEe, zn_wE0, zn_leT, zn_leF, zn_ltT, zn_ltF, zn_eqF, zn_eqT, zn_lt0, zn_0le, zn_d2a, zn_d2b, zn_e1a, zn_e1b, zn_10, zn_00, zn_sh4, zn_an15, true_imp_iff, false_imp_iff, imp_true_iff, not_true_eq_false, not_false_eq_true, zn_gT4, zn_gF4, zn_gT8, zn_gF8, zn_gT12, zn_gF12, zn_gT48, zn_gF48, zn_gT124, zn_gF124, zn_gT128, zn_gF128, zn_gT560, zn_gF560, zn_lT7, zn_lF7, zn_lT120, zn_lF120, zn_qT7, zn_qF7, zn_qT120, zn_qF120, zn_qT0, zn_qF0, zn_qT1, zn_qF1, zn_hT0, zn_hF0, zn_hT7, zn_hF7, zn_sb, pk_us, zn_us]
  refine zx_place hsc hxt (fun h => ?_) (fun s hs hlt => ?_)
  · exact br_t (by decide) (h1 h)
  · have h3 := h2 s hs hlt
    simp (disch := omega) only [zn_k4, zn_k8, zn_k16, zn_k32, zn_m16, zn_a64, zn_a128, nI_add, nI_1, nI_clamp, vp_in_nI, true_and, and_true, forall_eq, zn_rN, zn_rB, zn_rO, zn_rE, zn_vb0, zn_vb1, zn_b1, zn_b0, zn_d1, zn_d0, zn_e1, zn_e0, zn_wN, zn_wB1, zn_wB0, zn_wO, zn_wOd, zn_wO0, zn_wE, zn_wEe, zn_wE0, zn_leT, zn_leF, zn_ltT, zn_ltF, zn_eqF, zn_eqT, zn_lt0, zn_0le, zn_d2a, zn_d2b, zn_e1a, zn_e1b, zn_10, zn_00, zn_sh4, zn_an15, true_imp_iff, false_imp_iff, imp_true_iff, not_true_eq_false, not_false_eq_true, zn_gT4, zn_gF4, zn_gT8, zn_gF8, zn_gT12, zn_gF12, zn_gT48, zn_gF48, zn_gT124, zn_gF124, zn_gT128, zn_gF128, zn_gT560, zn_gF560, zn_lT7, zn_lF7, zn_lT120, zn_lF120, zn_qT7, zn_qF7, zn_qT120, zn_qF120, zn_qT0, zn_qF0, zn_qT1, zn_qF1, zn_hT0, zn_hF0, zn_hT7, zn_hF7, zn_sb, pk_us, zn_us]
    exact zx_copy (by omega) (by omega) (by omega) h3
theorem zx_act28 {post : SX → Prop} {p v d : Nat} (hd : d < 8) (hp4 : p < n) (hv : v < 64) (hn : n ≤ 4) (hsc : sc ≤ 12) (hxt : ∀ j, xt j ≤ 4) (h0 : zd_dst d p n = 0 → post (nI n, nI sc, nI lm, nI sv, nI rl, nI bg, zc_B xup, zc_N ix, zc_N ic, zc_N st, un, rp, dc, xv, zc_B xs, zc_N xo, xrs, xrr, xra, zc_O xp, zc_O xt, xss, sr, sa, zc_N en, zc_N xk, zc_N xl, zc_E xm, op, ol, ov)) (h1 : ∀ t, zd_dst d p n = t + 1 → zf_ff (fun s => decide (xt s = 0)) sc 0 = sc → post (nI n, nI sc, nI lm, nI sv, nI rl, nI bg, zc_B xup, zc_N ix, zc_N ic, zc_N st, un, rp, dc, xv, zc_B xs, zc_N xo, xrs, xrr, xra, zc_O xp, zc_O xt, xss, sr, sa, zc_N en, zc_N xk, zc_N xl, zc_E xm, op, ol, ov)) (h2 : ∀ t s, zd_dst d p n = t + 1 → t < n → s = zf_ff (fun s => decide (xt s = 0)) sc 0 → s < sc → post (nI n, nI sc, nI lm, nI sv, nI rl, nI bg, zc_B xup, zc_N ix, zc_N ic, zc_N st, un, rp, dc, xv, zc_B xs, zc_N xo, xrs, xrr, xra, zc_O (zv_cp xp v (128 + s) 4), zc_O (zc_u xt s (t + 1)), (upd xss s (nI p)), (upd sr s (zd_sh (xrr v))), (upd sa s (xv v)), zc_N en, zc_N xk, zc_N xl, zc_E xm, op, ol, ov)) : wX_act_28 post (nI p) (nI v) (nI d) (nI n) (nI sc) (nI lm) (nI sv) (nI rl) (nI bg) (zc_B xup) (zc_N ix) (zc_N ic) (zc_N st) un rp dc xv (zc_B xs) (zc_N xo) xrs xrr xra (zc_O xp) (zc_O xt) xss sr sa (zc_N en) (zc_N xk) (zc_N xl) (zc_E xm) op ol ov := by
  unfold wX_act_28
  by_cases hA : 1 ≤ d ∧ d ≤ 4
  · have e : zd_dst d p n = if d - 1 < n then d else 0 := if_pos hA
    by_cases hB : d - 1 < n
    · rw [if_pos hB] at e
      have k1 := zx_act74 (post := post) (p := p) (v := v) (t := d - 1) (by omega) hv hn hsc hxt hB (h1 (d - 1) (by omega)) (fun s hs hl => h2 (d - 1) s (by omega) hB hs hl)
      simp (disch := omega) only [zn_k4, zn_k8, zn_k16, zn_k32, zn_m16, zn_a64, zn_a128, nI_add, nI_1, nI_clamp, vp_in_nI, true_and, and_true, forall_eq, zn_rN, zn_rB, zn_rO, zn_rE, zn_vb0, zn_vb1, zn_b1, zn_b0, zn_d1, zn_d0, zn_e1, zn_e0, zn_wN, zn_wB1, zn_wB0, zn_wO, zn_wOd, zn_wO0, zn_wE, zn_wEe, zn_wE0, zn_leT, zn_leF, zn_ltT, zn_ltF, zn_eqF, zn_eqT, zn_lt0, zn_0le, zn_d2a, zn_d2b, zn_e1a, zn_e1b, zn_10, zn_00, zn_sh4, zn_an15, true_imp_iff, false_imp_iff, imp_true_iff, not_true_eq_false, not_false_eq_true, zn_gT4, zn_gF4, zn_gT8, zn_gF8, zn_gT12, zn_gF12, zn_gT48, zn_gF48, zn_gT124, zn_gF124, zn_gT128, zn_gF128, zn_gT560, zn_gF560, zn_lT7, zn_lF7, zn_lT120, zn_lF120, zn_qT7, zn_qF7, zn_qT120, zn_qF120, zn_qT0, zn_qF0, zn_qT1, zn_qF1, zn_hT0, zn_hF0, zn_hT7, zn_hF7, zn_sb, pk_us, zn_us, zn_s1, zn_lF1, zn_jF4]
      exact k1
    · rw [if_neg hB] at e
      have k0 := h0 e
      simp (disch := omega) only [zn_k4, zn_k8, zn_k16, zn_k32, zn_m16, zn_a64, zn_a128, nI_add, nI_1, nI_clamp, vp_in_nI, true_and, and_true, forall_eq, zn_rN, zn_rB, zn_rO, zn_rE, zn_vb0, zn_vb1, zn_b1, zn_b0, zn_d1, zn_d0, zn_e1, zn_e0, zn_wN, zn_wB1, zn_wB0, zn_wO, zn_wOd, zn_wO0, zn_wE, zn_wEe, zn_wE0, zn_leT, zn_leF, zn_ltT, zn_ltF, zn_eqF, zn_eqT, zn_lt0, zn_0le, zn_d2a, zn_d2b, zn_e1a, zn_e1b, zn_10, zn_00, zn_sh4, zn_an15, true_imp_iff, false_imp_iff, imp_true_iff, not_true_eq_false, not_false_eq_true, zn_gT4, zn_gF4, zn_gT8, zn_gF8, zn_gT12, zn_gF12, zn_gT48, zn_gF48, zn_gT124, zn_gF124, zn_gT128, zn_gF128, zn_gT560, zn_gF560, zn_lT7, zn_lF7, zn_lT120, zn_lF120, zn_qT7, zn_qF7, zn_qT120, zn_qF120, zn_qT0, zn_qF0, zn_qT1, zn_qF1, zn_hT0, zn_hF0, zn_hT7, zn_hF7, zn_sb, pk_us, zn_us, zn_s1, zn_lF1, zn_jF4, wX_act_74]
      exact k0
  · have e : zd_dst d p n = if d = 6 then (if p + 1 = n then 1 else p + 2) else 0 := if_neg hA
    have hA2 : d = 0 ∨ 4 < d := by omega
    by_cases h6 : d = 6
    · rw [if_pos h6] at e
      by_cases hB : p + 1 = n
      · rw [if_pos hB] at e
        have k1 := zx_act74 (post := post) (p := p) (v := v) (t := 0) (by omega) hv hn hsc hxt (by omega) (h1 0 (by omega)) (fun s hs hl => h2 0 s (by omega) (by omega) hs hl)
        subst h6
        rw [nI_0] at k1
        refine br_f (by decide) (br_t (by decide) ?_)
        unfold wX_act_49
        refine br_t (by decide) (br_t (by rw [nI_1, hB]) ?_)
        exact k1
      · rw [if_neg hB] at e
        have k1 := zx_act74 (post := post) (p := p) (v := v) (t := p + 1) (by omega) hv hn hsc hxt (by omega) (h1 (p + 1) (by omega)) (fun s hs hl => h2 (p + 1) s (by omega) (by omega) hs hl)
        subst h6
        refine br_f (by decide) (br_t (by decide) ?_)
        unfold wX_act_49
        refine br_t (by decide) (br_f (by rw [nI_1, nI_eq (by omega) (by omega)]; exact hB) ?_)
        rw [nI_1]
        exact k1
    · rw [if_neg h6] at e
      have k0 := h0 e
      rcases hA2 with hA2 | hA2
      · simp (disch := omega) only [zn_k4, zn_k8, zn_k16, zn_k32, zn_m16, zn_a64, zn_a128, nI_add, nI_1, nI_clamp, vp_in_nI, true_and, and_true, forall_eq, zn_rN, zn_rB, zn_rO, zn_rE, zn_vb0, zn_vb1, zn_b1, zn_b0, zn_d1, zn_d0, zn_e1, zn_e0, zn_wN, zn_wB1, zn_wB0, zn_wO, zn_wOd, zn_wO0, zn_wE, zn_wEe, zn_wE0, zn_leT, zn_leF, zn_ltT, zn_ltF, zn_eqF, zn_eqT, zn_lt0, zn_0le, zn_d2a, zn_d2b, zn_e1a, zn_e1b, zn_10, zn_00, zn_sh4, zn_an15, true_imp_iff, false_imp_iff, imp_true_iff, not_true_eq_false, not_false_eq_true, zn_gT4, zn_gF4, zn_gT8, zn_gF8, zn_gT12, zn_gF12, zn_gT48, zn_gF48, zn_gT124, zn_gF124, zn_gT128, zn_gF128, zn_gT560, zn_gF560, zn_lT7, zn_lF7, zn_lT120, zn_lF120, zn_qT7, zn_qF7, zn_qT120, zn_qF120, zn_qT0, zn_qF0, zn_qT1, zn_qF1, zn_hT0, zn_hF0, zn_hT7, zn_hF7, zn_sb, pk_us, zn_us, zn_lT1, wX_act_49, wX_act_74, zn_qF6]
        exact k0
      · simp (disch := omega) only [zn_k4, zn_k8, zn_k16, zn_k32, zn_m16, zn_a64, zn_a128, nI_add, nI_1, nI_clamp, vp_in_nI, true_and, and_true, forall_eq, zn_rN, zn_rB, zn_rO, zn_rE, zn_vb0, zn_vb1, zn_b1, zn_b0, zn_d1, zn_d0, zn_e1, zn_e0, zn_wN, zn_wB1, zn_wB0, zn_wO, zn_wOd, zn_wO0, zn_wE, zn_wEe, zn_wE0, zn_leT, zn_leF, zn_ltT, zn_ltF, zn_eqF, zn_eqT, zn_lt0, zn_0le, zn_d2a, zn_d2b, zn_e1a, zn_e1b, zn_10, zn_00, zn_sh4, zn_an15, true_imp_iff, false_imp_iff, imp_true_iff, not_true_eq_false, not_false_eq_true, zn_gT4, zn_gF4, zn_gT8, zn_gF8, zn_gT12, zn_gF12, zn_gT48, zn_gF48, zn_gT124, zn_gF124, zn_gT128, zn_gF128, zn_gT560, zn_gF560, zn_lT7, zn_lF7, zn_lT120, zn_lF120, zn_qT7, zn_qF7, zn_qT120, zn_qF120, zn_qT0, zn_qF0, zn_qT1, zn_qF1, zn_hT0, zn_hF0, zn_hT7, zn_hF7, zn_sb, pk_us, zn_us, zn_lF1, zn_jT4, wX_act_49, wX_act_74, zn_qF6]
        exact k0
theorem zx_act {post : SX → Prop} {p v : Nat} (hp4 : p < n) (hv : v < 64) (hn : n ≤ 4) (hsc : sc ≤ 12) (hxt : ∀ j, xt j ≤ 4) (h0 : zd_dst (zd_7 (xrr v)) p n = 0 → post (nI n, nI sc, nI lm, nI sv, nI rl, nI bg, zc_B xup, zc_N ix, zc_N ic, zc_N st, un, rp, dc, xv, zc_B xs, zc_N (zd_out (zd_7 (xrr v)) xo v), xrs, xrr, xra, zc_O xp, zc_O xt, xss, sr, sa, zc_N en, zc_N xk, zc_N xl, zc_E xm, op, ol, ov)) (h1 : ∀ t, zd_dst (zd_7 (xrr v)) p n = t + 1 → zf_ff (fun s => decide (xt s = 0)) sc 0 = sc → post (nI n, nI sc, nI lm, nI sv, nI rl, nI bg, zc_B xup, zc_N ix, zc_N ic, zc_N st, un, rp, dc, xv, zc_B xs, zc_N (zd_out (zd_7 (xrr v)) xo v), xrs, xrr, xra, zc_O xp, zc_O xt, xss, sr, sa, zc_N en, zc_N xk, zc_N xl, zc_E xm, op, ol, ov)) (h2 : ∀ t s, zd_dst (zd_7 (xrr v)) p n = t + 1 → t < n → s = zf_ff (fun s => decide (xt s = 0)) sc 0 → s < sc → post (nI n, nI sc, nI lm, nI sv, nI rl, nI bg, zc_B xup, zc_N ix, zc_N ic, zc_N st, un, rp, dc, xv, zc_B xs, zc_N (zd_out (zd_7 (xrr v)) xo v), xrs, xrr, xra, zc_O (zv_cp xp v (128 + s) 4), zc_O (zc_u xt s (t + 1)), (upd xss s (nI p)), (upd sr s (zd_sh (xrr v))), (upd sa s (xv v)), zc_N en, zc_N xk, zc_N xl, zc_E xm, op, ol, ov)) : wpX_act post (nI n, nI sc, nI lm, nI sv, nI rl, nI bg, zc_B xup, zc_N ix, zc_N ic, zc_N st, un, rp, dc, xv, zc_B xs, zc_N xo, xrs, xrr, xra, zc_O xp, zc_O xt, xss, sr, sa, zc_N en, zc_N xk, zc_N xl, zc_E xm, op, ol, ov) (nI p) (nI v) := by
  have hd := zd_7l (xrr v)
  have he := zd_7e (xrr v)
  have hk := zx_act28 (post := post) (xo := zd_out (zd_7 (xrr v)) xo v) hd hp4 hv hn hsc hxt h0 h1 h2
  unfold wpX_act
  by_cases h5 : zd_7 (xrr v) = 5
  · have e : zd_out (zd_7 (xrr v)) xo v = zc_u xo v 1 := if_pos (Or.inl h5)
    rw [e] at hk
    have e1 : upd (zc_N xo) v 1 = zc_N (zc_u xo v 1) := zn_wN xo v 1
    simp (disch := omega) only [zn_k4, zn_k8, zn_k16, zn_k32, zn_m16, zn_a64, zn_a128, nI_add, nI_1, nI_clamp, vp_in_nI, true_and, and_true, forall_eq, zn_rN, zn_rB, zn_rO, zn_rE, zn_vb0, zn_vb1, zn_b1, zn_b0, zn_d1, zn_d0, zn_e1, zn_e0, zn_wN, zn_wB1, zn_wB0, zn_wO, zn_wOd, zn_wO0, zn_wE, zn_wEe, zn_wE0, zn_leT, zn_leF, zn_ltT, zn_ltF, zn_eqF, zn_eqT, zn_lt0, zn_0le, zn_d2a, zn_d2b, zn_e1a, zn_e1b, zn_10, zn_00, zn_sh4, zn_an15, true_imp_iff, false_imp_iff, imp_true_iff, not_true_eq_false, not_false_eq_true, zn_gT4, zn_gF4, zn_gT8, zn_gF8, zn_gT12, zn_gF12, zn_gT48, zn_gF48, zn_gT124, zn_gF124, zn_gT128, zn_gF128, zn_gT560, zn_gF560, zn_lT7, zn_lF7, zn_lT120, zn_lF120, zn_qT7, zn_qF7, zn_qT120, zn_qF120, zn_qT0, zn_qF0, zn_qT1, zn_qF1, zn_hT0, zn_hF0, zn_hT7, zn_hF7, zn_sb, pk_us, zn_us, he, zn_qT5, wX_act_21, e1]
    exact hk
  · by_cases h6 : zd_7 (xrr v) = 6
    · have e : zd_out (zd_7 (xrr v)) xo v = zc_u xo v 1 := if_pos (Or.inr h6)
      rw [e] at hk
      have e1 : upd (zc_N xo) v 1 = zc_N (zc_u xo v 1) := zn_wN xo v 1
      simp (disch := omega) only [zn_k4, zn_k8, zn_k16, zn_k32, zn_m16, zn_a64, zn_a128, nI_add, nI_1, nI_clamp, vp_in_nI, true_and, and_true, forall_eq, zn_rN, zn_rB, zn_rO, zn_rE, zn_vb0, zn_vb1, zn_b1, zn_b0, zn_d1, zn_d0, zn_e1, zn_e0, zn_wN, zn_wB1, zn_wB0, zn_wO, zn_wOd, zn_wO0, zn_wE, zn_wEe, zn_wE0, zn_leT, zn_leF, zn_ltT, zn_ltF, zn_eqF, zn_eqT, zn_lt0, zn_0le, zn_d2a, zn_d2b, zn_e1a, zn_e1b, zn_10, zn_00, zn_sh4, zn_an15, true_imp_iff, false_imp_iff, imp_true_iff, not_true_eq_false, not_false_eq_true, zn_gT4, zn_gF4, zn_gT8, zn_gF8, zn_gT12, zn_gF12, zn_gT48, zn_gF48, zn_gT124, zn_gF124, zn_gT128, zn_gF128, zn_gT560, zn_gF560, zn_lT7, zn_lF7, zn_lT120, zn_lF120, zn_qT7, zn_qF7, zn_qT120, zn_qF120, zn_qT0, zn_qF0, zn_qT1, zn_qF1, zn_hT0, zn_hF0, zn_hT7, zn_hF7, zn_sb, pk_us, zn_us, he, zn_qF5, zn_qT6, wX_act_21, e1]
      exact hk
    · have e : zd_out (zd_7 (xrr v)) xo v = xo := if_neg (fun z => z.elim h5 h6)
      rw [e] at hk
      simp (disch := omega) only [zn_k4, zn_k8, zn_k16, zn_k32, zn_m16, zn_a64, zn_a128, nI_add, nI_1, nI_clamp, vp_in_nI, true_and, and_true, forall_eq, zn_rN, zn_rB, zn_rO, zn_rE, zn_vb0, zn_vb1, zn_b1, zn_b0, zn_d1, zn_d0, zn_e1, zn_e0, zn_wN, zn_wB1, zn_wB0, zn_wO, zn_wOd, zn_wO0, zn_wE, zn_wEe, zn_wE0, zn_leT, zn_leF, zn_ltT, zn_ltF, zn_eqF, zn_eqT, zn_lt0, zn_0le, zn_d2a, zn_d2b, zn_e1a, zn_e1b, zn_10, zn_00, zn_sh4, zn_an15, true_imp_iff, false_imp_iff, imp_true_iff, not_true_eq_false, not_false_eq_true, zn_gT4, zn_gF4, zn_gT8, zn_gF8, zn_gT12, zn_gF12, zn_gT48, zn_gF48, zn_gT124, zn_gF124, zn_gT128, zn_gF128, zn_gT560, zn_gF560, zn_lT7, zn_lF7, zn_lT120, zn_lF120, zn_qT7, zn_qF7, zn_qT120, zn_qF120, zn_qT0, zn_qF0, zn_qT1, zn_qF1, zn_hT0, zn_hF0, zn_hT7, zn_hF7, zn_sb, pk_us, zn_us, he, zn_qF5, zn_qF6]
      exact hk
end
end
section
/-! the reference's walk over a past, and the questions put to it -/
theorem zn_em (y : Nat) : nI y + (-1) = zc_e y := by
  cases y with
  | zero => decide
  | succ y => exact pk_m1 y
/-- the graph of pasts: P m z says that z is in the past of code m -/
def zg_G (N : Nat) (gq gf : Nat → Nat) (P : Nat → Nat → Bool) : Prop :=
  (∀ z, P 0 z = false) ∧ (∀ u, u < N → gq u ≤ u ∧ gf u ≤ u) ∧ (∀ u, u < N → ∀ z, P (u + 1) z = true ↔ z = u ∨ P (gq u) z = true ∨ P (gf u) z = true)
theorem zg_lt {N : Nat} {gq gf : Nat → Nat} {P : Nat → Nat → Bool} (G : zg_G N gq gf P) : ∀ b m, m ≤ b → m ≤ N → ∀ z, P m z = true → z < m := by
  intro b
  induction b with
  | zero =>
    intro m h1 h2 z hz
    obtain rfl : m = 0 := by omega
    rw [G.1 z] at hz
    exact absurd hz (by decide)
  | succ b ih =>
    intro m h1 h2 z hz
    cases m with
    | zero => rw [G.1 z] at hz; exact absurd hz (by decide)
    | succ u =>
      have hq := G.2.1 u (by omega)
      rcases (G.2.2 u (by omega) z).mp hz with h | h | h
      · omega
      · have := ih (gq u) (by omega) (by omega) z h; omega
      · have := ih (gf u) (by omega) (by omega) z h; omega
theorem zg_tr {N : Nat} {gq gf : Nat → Nat} {P : Nat → Nat → Bool} (G : zg_G N gq gf P) : ∀ b m, m ≤ b → m ≤ N → ∀ y z, P m y = true → P (y + 1) z = true → P m z = true := by
  intro b
  induction b with
  | zero =>
    intro m h1 h2 y z hy _
    obtain rfl : m = 0 := by omega
    rw [G.1 y] at hy
    exact absurd hy (by decide)
  | succ b ih =>
    intro m h1 h2 y z hy hz
    cases m with
    | zero => rw [G.1 y] at hy; exact absurd hy (by decide)
    | succ u =>
      have hq := G.2.1 u (by omega)
      rcases (G.2.2 u (by omega) y).mp hy with h | h | h
      · subst h; exact hz
      · exact (G.2.2 u (by omega) z).mpr (Or.inr (Or.inl (ih (gq u) (by omega) (by omega) y z h hz)))
      · exact (G.2.2 u (by omega) z).mpr (Or.inr (Or.inr (ih (gf u) (by omega) (by omega) y z h hz)))
theorem zg_self {N : Nat} {gq gf : Nat → Nat} {P : Nat → Nat → Bool} (G : zg_G N gq gf P) {u : Nat} (hu : u < N) : P (u + 1) u = true := (G.2.2 u hu u).mpr (Or.inl rfl)
theorem zg_par {N : Nat} {gq gf : Nat → Nat} {P : Nat → Nat → Bool} (G : zg_G N gq gf P) : ∀ b m, m ≤ b → m ≤ N → ∀ z, P m z = true → z + 1 ≠ m → ∃ y, P m y = true ∧ z < y ∧ (gq y = z + 1 ∨ gf y = z + 1) := by
  intro b
  induction b with
  | zero =>
    intro m h1 h2 z hz
    obtain rfl : m = 0 := by omega
    rw [G.1 z] at hz
    exact absurd hz (by decide)
  | succ b ih =>
    intro m h1 h2 z hz hne
    cases m with
    | zero => rw [G.1 z] at hz; exact absurd hz (by decide)
    | succ u =>
      have hq := G.2.1 u (by omega)
      have hs := zg_self G (u := u) (by omega)
      rcases (G.2.2 u (by omega) z).mp hz with h | h | h
      · omega
      · by_cases he : z + 1 = gq u
        · exact ⟨u, hs, by omega, Or.inl he.symm⟩
        · obtain ⟨y, h3, h4, h5⟩ := ih (gq u) (by omega) (by omega) z h he
          exact ⟨y, (G.2.2 u (by omega) y).mpr (Or.inr (Or.inl h3)), h4, h5⟩
      · by_cases he : z + 1 = gf u
        · exact ⟨u, hs, by omega, Or.inr he.symm⟩
        · obtain ⟨y, h3, h4, h5⟩ := ih (gf u) (by omega) (by omega) z h he
          exact ⟨y, (G.2.2 u (by omega) y).mpr (Or.inr (Or.inr h3)), h4, h5⟩
/-- what the walk's second loop holds at its head, w the code of its counter -/
def zg_I (gq gf : Nat → Nat) (P : Nat → Nat → Bool) (m w : Nat) (g : Nat → Bool) : Prop :=
  (∀ z, z < 124 → g z = true → P m z = true) ∧ (∀ y, m = y + 1 → g y = true) ∧ (∀ z, w ≤ z → z < 124 → P m z = true → g z = true ∧ (∀ y, gq z = y + 1 → g y = true) ∧ (∀ y, gf z = y + 1 → g y = true))
theorem zg_Iw {N : Nat} {gq gf : Nat → Nat} {P : Nat → Nat → Bool} (G : zg_G N gq gf P) {m w : Nat} {g : Nat → Bool} (hN : N ≤ 124) (hm : m ≤ N) (I : zg_I gq gf P m w g) {z : Nat} (hz : w ≤ z + 1) (hP : P m z = true) : g z = true := by
  by_cases he : z + 1 = m
  · exact I.2.1 z he.symm
  · obtain ⟨y, h3, h4, h5⟩ := zg_par G m m (Nat.le_refl m) hm z hP he
    have hy := zg_lt G m m (Nat.le_refl m) hm y h3
    have h6 := I.2.2 y (by omega) (by omega) h3
    rcases h5 with h5 | h5
    · exact h6.2.1 z h5
    · exact h6.2.2 z h5
theorem zg_Is {N : Nat} {gq gf : Nat → Nat} {P : Nat → Nat → Bool} (G : zg_G N gq gf P) {m w : Nat} {g g' : Nat → Bool} (hm : m ≤ N) (I : zg_I gq gf P m (w + 1) g) (hP : P m w = true) (hg : g' w = true) (h1 : ∀ z, g' z = true ↔ g z = true ∨ gq w = z + 1 ∨ gf w = z + 1) : zg_I gq gf P m w g' := by
  have hw := zg_lt G m m (Nat.le_refl m) hm w hP
  have hqf := G.2.1 w (by omega)
  refine ⟨fun z hz h => ?_, fun y hy => (h1 y).mpr (Or.inl (I.2.1 y hy)), fun z h2 h3 h4 => ?_⟩
  · rcases (h1 z).mp h with h | h | h
    · exact I.1 z hz h
    · refine zg_tr G m m (Nat.le_refl m) hm w z hP ((G.2.2 w (by omega) z).mpr (Or.inr (Or.inl ?_)))
      rw [h]; exact zg_self G (by omega)
    · refine zg_tr G m m (Nat.le_refl m) hm w z hP ((G.2.2 w (by omega) z).mpr (Or.inr (Or.inr ?_)))
      rw [h]; exact zg_self G (by omega)
  · rcases Nat.lt_or_ge w z with h5 | h5
    · have h6 := I.2.2 z (by omega) h3 h4
      exact ⟨(h1 z).mpr (Or.inl h6.1), fun y hy => (h1 y).mpr (Or.inl (h6.2.1 y hy)), fun y hy => (h1 y).mpr (Or.inl (h6.2.2 y hy))⟩
    · obtain rfl : z = w := by omega
      exact ⟨hg, fun y hy => (h1 y).mpr (Or.inr (Or.inl hy)), fun y hy => (h1 y).mpr (Or.inr (Or.inr hy))⟩
theorem zn_ut {f : Nat → Bool} {k j : Nat} : zc_u f k true j = true ↔ f j = true ∨ j = k := by
  unfold zc_u
  by_cases h : j = k
  · rw [if_pos h]; exact ⟨fun _ => Or.inr h, fun _ => rfl⟩
  · rw [if_neg h]; exact ⟨Or.inl, fun z => z.elim id (fun e => absurd e h)⟩
section
variable {n sc lm sv bg rl : Nat} {gp gi gx gq gf go ix ic st ch en to sf : Nat → Nat} {gv gr ga un rp dc sr sa op ol ov : Nat → Int32} {gs gm yp yup kn fl : Nat → Bool}
variable {P : Nat → Nat → Bool} {N m : Nat}
theorem zy_walk2 {post : SY → Prop} (G : zg_G N gq gf P) (hN : N ≤ 124) (hm : m ≤ N) (hp : ∀ b : Nat → Bool, (∀ z, z < 124 → b z = P m z) → post (nI n, nI sc, nI lm, nI sv, nI bg, nI rl, zc_N gp, zc_N gi, zc_N gx, gv, zc_E gq, zc_E gf, gr, ga, zc_N go, zc_B gs, zc_B gm, zc_B (b), zc_B yup, zc_N ix, zc_N ic, zc_N st, un, rp, dc, zc_N ch, zc_N en, zc_B kn, zc_B fl, zc_N to, zc_E sf, sr, sa, op, ol, ov)) : ∀ w (g : Nat → Bool), w ≤ 124 → zg_I gq gf P m w g → wY_walk_33 post (nI n) (nI sc) (nI lm) (nI sv) (nI bg) (nI rl) (w + 1) (zc_e w) (zc_N gp) (zc_N gi) (zc_N gx) gv (zc_E gq) (zc_E gf) gr ga (zc_N go) (zc_B gs) (zc_B gm) (zc_B (g)) (zc_B yup) (zc_N ix) (zc_N ic) (zc_N st) un rp dc (zc_N ch) (zc_N en) (zc_B kn) (zc_B fl) (zc_N to) (zc_E sf) sr sa op ol ov := by
  intro w
  induction w with
  | zero =>
    intro g hw I
    refine br_t (by decide) (hp g (fun z hz => ?_))
    cases hP : P m z with
    | true => exact zg_Iw G hN hm I (by omega) hP
    | false =>
      cases hg : g z with
      | false => rfl
      | true => rw [I.1 z hz hg] at hP; exact absurd hP (by decide)
  | succ w ih =>
    intro g hw I
    cases hg : g w with
    | false =>
      have hP : P m w = false := by
        cases hP : P m w with
        | false => rfl
        | true => rw [zg_Iw G hN hm I (by omega) hP] at hg; exact absurd hg (by decide)
      have hI : zg_I gq gf P m w g := by
        refine ⟨I.1, I.2.1, fun z h2 h3 h4 => ?_⟩
        rcases Nat.lt_or_ge w z with h5 | h5
        · exact I.2.2 z (by omega) h3 h4
        · obtain rfl : z = w := by omega
          rw [hP] at h4; exact absurd h4 (by decide)
      have := ih g (by omega) hI
      rw [wY_walk_33]
      simp (disch := omega) only [zn_k4, zn_k8, zn_k16, zn_k32, zn_m16, zn_a64, zn_a128, nI_add, nI_1, nI_clamp, vp_in_nI, true_and, and_true, forall_eq, zn_rN, zn_rB, zn_rO, zn_rE, zn_vb0, zn_vb1, zn_b1, zn_b0, zn_d1, zn_d0, zn_e1, zn_e0, zn_wN, zn_wB1, zn_wB0, zn_wO, zn_wOd, zn_wO0, zn_wE, zn_wEe, zn_wE0, zn_leT, zn_leF, zn_ltT, zn_ltF, zn_eqF, zn_eqT, zn_lt0, zn_0le, zn_d2a, zn_d2b, zn_e1a, zn_e1b, zn_10, zn_00, zn_sh4, zn_an15, true_imp_iff, false_imp_iff, imp_true_iff, not_true_eq_false, not_false_eq_true, zn_gT4, zn_gF4, zn_gT8, zn_gF8, zn_gT12, zn_gF12, zn_gT48, zn_gF48, zn_gT124, zn_gF124, zn_gT128, zn_gF128, zn_gT560, zn_gF560, zn_lT7, zn_lF7, zn_lT120, zn_lF120, zn_qT7, zn_qF7, zn_qT120, zn_qF120, zn_qT0, zn_qF0, zn_qT1, zn_qF1, zn_hT0, zn_hF0, zn_hT7, zn_hF7, zn_sb, pk_us, zn_us, wY_walk_67, hg, zn_em]
      exact this
    | true =>
      have hP := I.1 w (by omega) hg
      have hwm := zg_lt G m m (Nat.le_refl m) hm w hP
      have hqf := G.2.1 w (by omega)
      cases hq : gq w with
      | zero =>
        cases hf : gf w with
        | zero =>
          have := ih g (by omega) (zg_Is G hm I hP hg (fun z => ⟨Or.inl, fun h => h.elim id (fun h => absurd h (by omega))⟩))
          rw [wY_walk_33]
          simp (disch := omega) only [zn_k4, zn_k8, zn_k16, zn_k32, zn_m16, zn_a64, zn_a128, nI_add, nI_1, nI_clamp, vp_in_nI, true_and, and_true, forall_eq, zn_rN, zn_rB, zn_rO, zn_rE, zn_vb0, zn_vb1, zn_b1, zn_b0, zn_d1, zn_d0, zn_e1, zn_e0, zn_wN, zn_wB1, zn_wB0, zn_wO, zn_wOd, zn_wO0, zn_wE, zn_wEe, zn_wE0, zn_leT, zn_leF, zn_ltT, zn_ltF, zn_eqF, zn_eqT, zn_lt0, zn_0le, zn_d2a, zn_d2b, zn_e1a, zn_e1b, zn_10, zn_00, zn_sh4, zn_an15, true_imp_iff, false_imp_iff, imp_true_iff, not_true_eq_false, not_false_eq_true, zn_gT4, zn_gF4, zn_gT8, zn_gF8, zn_gT12, zn_gF12, zn_gT48, zn_gF48, zn_gT124, zn_gF124, zn_gT128, zn_gF128, zn_gT560, zn_gF560, zn_lT7, zn_lF7, zn_lT120, zn_lF120, zn_qT7, zn_qF7, zn_qT120, zn_qF120, zn_qT0, zn_qF0, zn_qT1, zn_qF1, zn_hT0, zn_hF0, zn_hT7, zn_hF7, zn_sb, pk_us, zn_us, wY_walk_67, hg, hq, hf, zn_em]
          exact this
        | succ y =>
          have := ih (zc_u g y true) (by omega) (zg_Is G hm I hP (zn_ut.mpr (Or.inl hg)) (fun z => by rw [zn_ut]; constructor <;> intro h <;> rcases h with h | h <;> first | exact Or.inl h | (right; right; omega) | (rcases h with h | h <;> first | omega | (right; omega))))
          rw [wY_walk_33]
          simp (disch := omega) only [zn_k4, zn_k8, zn_k16, zn_k32, zn_m16, zn_a64, zn_a128, nI_add, nI_1, nI_clamp, vp_in_nI, true_and, and_true, forall_eq, zn_rN, zn_rB, zn_rO, zn_rE, zn_vb0, zn_vb1, zn_b1, zn_b0, zn_d1, zn_d0, zn_e1, zn_e0, zn_wN, zn_wB1, zn_wB0, zn_wO, zn_wOd, zn_wO0, zn_wE, zn_wEe, zn_wE0, zn_leT, zn_leF, zn_ltT, zn_ltF, zn_eqF, zn_eqT, zn_lt0, zn_0le, zn_d2a, zn_d2b, zn_e1a, zn_e1b, zn_10, zn_00, zn_sh4, zn_an15, true_imp_iff, false_imp_iff, imp_true_iff, not_true_eq_false, not_false_eq_true, zn_gT4, zn_gF4, zn_gT8, zn_gF8, zn_gT12, zn_gF12, zn_gT48, zn_gF48, zn_gT124, zn_gF124, zn_gT128, zn_gF128, zn_gT560, zn_gF560, zn_lT7, zn_lF7, zn_lT120, zn_lF120, zn_qT7, zn_qF7, zn_qT120, zn_qF120, zn_qT0, zn_qF0, zn_qT1, zn_qF1, zn_hT0, zn_hF0, zn_hT7, zn_hF7, zn_sb, pk_us, zn_us, wY_walk_67, hg, hq, hf, zn_em]
          exact this
      | succ x =>
        have hg2 : zc_u g x true w = true := zn_ut.mpr (Or.inl hg)
        cases hf : gf w with
        | zero =>
          have := ih (zc_u g x true) (by omega) (zg_Is G hm I hP hg2 (fun z => by rw [zn_ut]; constructor <;> intro h <;> rcases h with h | h <;> first | exact Or.inl h | (right; left; omega) | (rcases h with h | h <;> first | omega | (right; omega))))
          rw [wY_walk_33]
          simp (disch := omega) only [zn_k4, zn_k8, zn_k16, zn_k32, zn_m16, zn_a64, zn_a128, nI_add, nI_1, nI_clamp, vp_in_nI, true_and, and_true, forall_eq, zn_rN, zn_rB, zn_rO, zn_rE, zn_vb0, zn_vb1, zn_b1, zn_b0, zn_d1, zn_d0, zn_e1, zn_e0, zn_wN, zn_wB1, zn_wB0, zn_wO, zn_wOd, zn_wO0, zn_wE, zn_wEe, zn_wE0, zn_leT, zn_leF, zn_ltT, zn_ltF, zn_eqF, zn_eqT, zn_lt0, zn_0le, zn_d2a, zn_d2b, zn_e1a, zn_e1b, zn_10, zn_00, zn_sh4, zn_an15, true_imp_iff, false_imp_iff, imp_true_iff, not_true_eq_false, not_false_eq_true, zn_gT4, zn_gF4, zn_gT8, zn_gF8, zn_gT12, zn_gF12, zn_gT48, zn_gF48, zn_gT124, zn_gF124, zn_gT128, zn_gF128, zn_gT560, zn_gF560, zn_lT7, zn_lF7, zn_lT120, zn_lF120, zn_qT7, zn_qF7, zn_qT120, zn_qF120, zn_qT0, zn_qF0, zn_qT1, zn_qF1, zn_hT0, zn_hF0, zn_hT7, zn_hF7, zn_sb, pk_us, zn_us, wY_walk_67, hg, hg2, hq, hf, zn_em]
          exact this
        | succ y =>
          have := ih (zc_u (zc_u g x true) y true) (by omega) (zg_Is G hm I hP (zn_ut.mpr (Or.inl hg2)) (fun z => by
            rw [zn_ut, zn_ut]
            constructor
            · rintro ((h | h) | h)
              · exact Or.inl h
              · exact Or.inr (Or.inl (by omega))
              · exact Or.inr (Or.inr (by omega))
            · rintro (h | h | h)
              · exact Or.inl (Or.inl h)
              · exact Or.inl (Or.inr (by omega))
              · exact Or.inr (by omega)))
          rw [wY_walk_33]
          simp (disch := omega) only [zn_k4, zn_k8, zn_k16, zn_k32, zn_m16, zn_a64, zn_a128, nI_add, nI_1, nI_clamp, vp_in_nI, true_and, and_true, forall_eq, zn_rN, zn_rB, zn_rO, zn_rE, zn_vb0, zn_vb1, zn_b1, zn_b0, zn_d1, zn_d0, zn_e1, zn_e0, zn_wN, zn_wB1, zn_wB0, zn_wO, zn_wOd, zn_wO0, zn_wE, zn_wEe, zn_wE0, zn_leT, zn_leF, zn_ltT, zn_ltF, zn_eqF, zn_eqT, zn_lt0, zn_0le, zn_d2a, zn_d2b, zn_e1a, zn_e1b, zn_10, zn_00, zn_sh4, zn_an15, true_imp_iff, false_imp_iff, imp_true_iff, not_true_eq_false, not_false_eq_true, zn_gT4, zn_gF4, zn_gT8, zn_gF8, zn_gT12, zn_gF12, zn_gT48, zn_gF48, zn_gT124, zn_gF124, zn_gT128, zn_gF128, zn_gT560, zn_gF560, zn_lT7, zn_lF7, zn_lT120, zn_lF120, zn_qT7, zn_qF7, zn_qT120, zn_qF120, zn_qT0, zn_qF0, zn_qT1, zn_qF1, zn_hT0, zn_hF0, zn_hT7, zn_hF7, zn_sb, pk_us, zn_us, wY_walk_67, hg, hg2, hq, hf, zn_em]
          exact this
theorem zn_ee {v m : Nat} (hv : v < 2 ^ 30) (hm : m < 2 ^ 30) : nI v = zc_e m ↔ m = v + 1 := by
  cases m with
  | zero =>
    refine ⟨fun h => ?_, fun h => absurd h (by omega)⟩
    have h0 := nI_pos (n := v) (by omega)
    rw [h] at h0
    exact absurd (by decide) h0
  | succ m => exact (nI_eq (by omega) (by omega)).trans (by omega)
theorem zy_walk1 {post : SY → Prop} (G : zg_G N gq gf P) (hN : N ≤ 124) (hm : m ≤ N) (hp : ∀ b : Nat → Bool, (∀ z, z < 124 → b z = P m z) → post (nI n, nI sc, nI lm, nI sv, nI bg, nI rl, zc_N gp, zc_N gi, zc_N gx, gv, zc_E gq, zc_E gf, gr, ga, zc_N go, zc_B gs, zc_B gm, zc_B (b), zc_B yup, zc_N ix, zc_N ic, zc_N st, un, rp, dc, zc_N ch, zc_N en, zc_B kn, zc_B fl, zc_N to, zc_E sf, sr, sa, op, ol, ov)) : ∀ d x (g : Nat → Bool), x + d = 124 → (∀ z, z < x → g z = decide (m = z + 1)) → wY_walk_2 post (zc_e m) (nI n) (nI sc) (nI lm) (nI sv) (nI bg) (nI rl) (d + 1) (nI x) (zc_N gp) (zc_N gi) (zc_N gx) gv (zc_E gq) (zc_E gf) gr ga (zc_N go) (zc_B gs) (zc_B gm) (zc_B (g)) (zc_B yup) (zc_N ix) (zc_N ic) (zc_N st) un rp dc (zc_N ch) (zc_N en) (zc_B kn) (zc_B fl) (zc_N to) (zc_E sf) sr sa op ol ov := by
  intro d
  induction d with
  | zero =>
    intro x g h hg
    obtain rfl : x = 124 := by omega
    refine br_t (by decide) ⟨125, zy_walk2 G hN hm hp 124 g (by omega) ⟨fun z hz h1 => ?_, fun y hy => ?_, fun z h2 h3 => absurd h3 (by omega)⟩⟩
    · rw [hg z hz, decide_eq_true_eq] at h1
      subst h1
      exact zg_self G (by omega)
    · rw [hg y (by omega), decide_eq_true_eq]
      exact hy
  | succ d ih =>
    intro x g h hg
    have hx := zn_ee (v := x) (m := m) (by omega) (by omega)
    by_cases he : m = x + 1
    · have := ih (x + 1) (zc_u g x true) (by omega) (fun z hz => by
        unfold zc_u
        by_cases h1 : z = x
        · rw [if_pos h1]; exact (decide_eq_true (by omega)).symm
        · rw [if_neg h1]; exact hg z (by omega))
      rw [wY_walk_2]
      simp (disch := omega) only [zn_k4, zn_k8, zn_k16, zn_k32, zn_m16, zn_a64, zn_a128, nI_add, nI_1, nI_clamp, vp_in_nI, true_and, and_true, forall_eq, zn_rN, zn_rB, zn_rO, zn_rE, zn_vb0, zn_vb1, zn_b1, zn_b0, zn_d1, zn_d0, zn_e1, zn_e0, zn_wN, zn_wB1, zn_wB0, zn_wO, zn_wOd, zn_wO0, zn_wE, zn_wEe, zn_wE0, zn_leT, zn_leF, zn_ltT, zn_ltF, zn_eqF, zn_eqT, zn_lt0, zn_0le, zn_d2a, zn_d2b, zn_e1a, zn_e1b, zn_10, zn_00, zn_sh4, zn_an15, true_imp_iff, false_imp_iff, imp_true_iff, not_true_eq_false, not_false_eq_true, zn_gT4, zn_gF4, zn_gT8, zn_gF8, zn_gT12, zn_gF12, zn_gT48, zn_gF48, zn_gT124, zn_gF124, zn_gT128, zn_gF128, zn_gT560, zn_gF560, zn_lT7, zn_lF7, zn_lT120, zn_lF120, zn_qT7, zn_qF7, zn_qT120, zn_qF120, zn_qT0, zn_qF0, zn_qT1, zn_qF1, zn_hT0, zn_hF0, zn_hT7, zn_hF7, zn_sb, pk_us, zn_us, eq_true (hx.mpr he)]
      exact this
    · have := ih (x + 1) (zc_u g x false) (by omega) (fun z hz => by
        unfold zc_u
        by_cases h1 : z = x
        · rw [if_pos h1]; exact (decide_eq_false (by omega)).symm
        · rw [if_neg h1]; exact hg z (by omega))
      rw [wY_walk_2]
      simp (disch := omega) only [zn_k4, zn_k8, zn_k16, zn_k32, zn_m16, zn_a64, zn_a128, nI_add, nI_1, nI_clamp, vp_in_nI, true_and, and_true, forall_eq, zn_rN, zn_rB, zn_rO, zn_rE, zn_vb0, zn_vb1, zn_b1, zn_b0, zn_d1, zn_d0, zn_e1, zn_e0, zn_wN, zn_wB1, zn_wB0, zn_wO, zn_wOd, zn_wO0, zn_wE, zn_wEe, zn_wE0, zn_leT, zn_leF, zn_ltT, zn_ltF, zn_eqF, zn_eqT, zn_lt0, zn_0le, zn_d2a, zn_d2b, zn_e1a, zn_e1b, zn_10, zn_00, zn_sh4, zn_an15, true_imp_iff, false_imp_iff, imp_true_iff, not_true_eq_false, not_false_eq_true, zn_gT4, zn_gF4, zn_gT8, zn_gF8, zn_gT12, zn_gF12, zn_gT48, zn_gF48, zn_gT124, zn_gF124, zn_gT128, zn_gF128, zn_gT560, zn_gF560, zn_lT7, zn_lF7, zn_lT120, zn_lF120, zn_qT7, zn_qF7, zn_qT120, zn_qF120, zn_qT0, zn_qF0, zn_qT1, zn_qF1, zn_hT0, zn_hF0, zn_hT7, zn_hF7, zn_sb, pk_us, zn_us, eq_false (fun z => he (hx.mp z))]
      exact this
theorem zy_walk {post : SY → Prop} (G : zg_G N gq gf P) (hN : N ≤ 124) (hm : m ≤ N) (hp : ∀ b : Nat → Bool, (∀ z, z < 124 → b z = P m z) → post (nI n, nI sc, nI lm, nI sv, nI bg, nI rl, zc_N gp, zc_N gi, zc_N gx, gv, zc_E gq, zc_E gf, gr, ga, zc_N go, zc_B gs, zc_B gm, zc_B (b), zc_B yup, zc_N ix, zc_N ic, zc_N st, un, rp, dc, zc_N ch, zc_N en, zc_B kn, zc_B fl, zc_N to, zc_E sf, sr, sa, op, ol, ov)) : wpY_walk post (nI n, nI sc, nI lm, nI sv, nI bg, nI rl, zc_N gp, zc_N gi, zc_N gx, gv, zc_E gq, zc_E gf, gr, ga, zc_N go, zc_B gs, zc_B gm, zc_B yp, zc_B yup, zc_N ix, zc_N ic, zc_N st, un, rp, dc, zc_N ch, zc_N en, zc_B kn, zc_B fl, zc_N to, zc_E sf, sr, sa, op, ol, ov) (zc_e m) := ⟨125, zy_walk1 G hN hm hp 124 0 yp (by omega) (fun z hz => absurd hz (by omega))⟩
end
end
section
/-! the reference's questions -/
def zq_lk (gp gx en : Nat → Nat) (kn : Nat → Bool) (r z k : Nat) : Bool := kn (r * 32 + (gp z * 8 + k)) && decide (en (gp z * 8 + k) < gx z)
def zq_lost (gp gi gx en : Nat → Nat) (kn : Nat → Bool) (r z : Nat) : Bool := zf_ex (zq_lk gp gx en kn r z) (8 - gi z) (gi z)
def zq_yor (P : Nat → Nat → Bool) (gp gi gx en : Nat → Nat) (kn : Nat → Bool) (m r : Nat) : Bool := zf_ex (fun z => P m z && zq_lost gp gi gx en kn r z) 124 0
def zq_yw (gp gi : Nat → Nat) (kn : Nat → Bool) (r z : Nat) : Bool := zf_ex (fun k => !kn (r * 32 + gp z * 8 + k)) (gi z) 0
def zq_ywt (P : Nat → Nat → Bool) (gp gi : Nat → Nat) (kn : Nat → Bool) (m r : Nat) : Bool := zf_ex (fun z => P m z && zq_yw gp gi kn r z) 124 0
def zq_yam (P : Nat → Nat → Bool) (gm : Nat → Bool) (m r : Nat) : Bool := !zf_ex (fun z => P m z && !gm (z * 4 + r)) 124 0
def zq_gw (P : Nat → Nat → Bool) (gp gi gx : Nat → Nat) (m x z : Nat) : Nat := if P m z = true ∧ gp z = x then 16 * gi z + gx z + 1 else 0
def zq_gr (P : Nat → Nat → Bool) (gp gi gx : Nat → Nat) (m x : Nat) : Nat := zf_mx (zq_gw P gp gi gx m x) 124 0 0
section
variable {n sc lm sv bg rl : Nat} {gp gi gx gq gf go ix ic st ch en to sf : Nat → Nat} {gv gr ga un rp dc sr sa op ol ov : Nat → Int32} {gs gm yp yup kn fl : Nat → Bool}
variable {P : Nat → Nat → Bool} {N m : Nat}
theorem zy_lost_l {post : Int32 → Prop} {z r : Nat} (hz : z < 124) (hr : r < 4) (hgp : ∀ j, gp j < 4) (hgx : ∀ j, gx j ≤ 12) (hen : ∀ j, en j ≤ 12) : ∀ d k, k + d = 8 → post (zc_b (zf_ex (zq_lk gp gx en kn r z) d k)) → wY_lost_7 post (nI z) (nI r) (nI n) (nI sc) (nI lm) (nI sv) (nI bg) (nI rl) (zc_N gp) (zc_N gi) (zc_N gx) gv (zc_E gq) (zc_E gf) gr ga (zc_N go) (zc_B gs) (zc_B gm) (zc_B yp) (zc_B yup) (zc_N ix) (zc_N ic) (zc_N st) un rp dc (zc_N ch) (zc_N en) (zc_B kn) (zc_B fl) (zc_N to) (zc_E sf) sr sa op ol ov (d + 1) (nI k) := by
  intro d
  induction d with
  | zero =>
    intro k h hp
    obtain rfl : k = 8 := by omega
    exact br_t (by decide) hp
  | succ d ih =>
    intro k h hp
    have h1 := hgp z
    have h2 := hgx z
    have h3 := hen (gp z * 8 + k)
    rw [zf_ex_s] at hp
    unfold zq_lk at hp
    cases hk : kn (r * 32 + (gp z * 8 + k)) with
    | false =>
      rw [hk, Bool.false_and, if_neg (by decide)] at hp
      rw [wY_lost_7]
      simp (disch := omega) only [zn_k4, zn_k8, zn_k16, zn_k32, zn_m16, zn_a64, zn_a128, nI_add, nI_1, nI_clamp, vp_in_nI, true_and, and_true, forall_eq, zn_rN, zn_rB, zn_rO, zn_rE, zn_vb0, zn_vb1, zn_b1, zn_b0, zn_d1, zn_d0, zn_e1, zn_e0, zn_wN, zn_wB1, zn_wB0, zn_wO, zn_wOd, zn_wO0, zn_wE, zn_wEe, zn_wE0, zn_leT, zn_leF, zn_ltT, zn_ltF, zn_eqF, zn_eqT, zn_lt0, zn_0le, zn_d2a, zn_d2b, zn_e1a, zn_e1b, zn_10, zn_00, zn_sh4, zn_an15, true_imp_iff, false_imp_iff, imp_true_iff, not_true_eq_false, not_false_eq_true, zn_gT4, zn_gF4, zn_gT8, zn_gF8, zn_gT12, zn_gF12, zn_gT48, zn_gF48, zn_gT124, zn_gF124, zn_gT128, zn_gF128, zn_gT560, zn_gF560, zn_lT7, zn_lF7, zn_lT120, zn_lF120, zn_qT7, zn_qF7, zn_qT120, zn_qF120, zn_qT0, zn_qF0, zn_qT1, zn_qF1, zn_hT0, zn_hF0, zn_hT7, zn_hF7, zn_sb, pk_us, zn_us, hk]
      exact ih (k + 1) (by omega) hp
    | true =>
      by_cases hl : en (gp z * 8 + k) < gx z
      · rw [hk, decide_eq_true hl, if_pos (by decide)] at hp
        rw [wY_lost_7]
        simp (disch := omega) only [zn_k4, zn_k8, zn_k16, zn_k32, zn_m16, zn_a64, zn_a128, nI_add, nI_1, nI_clamp, vp_in_nI, true_and, and_true, forall_eq, zn_rN, zn_rB, zn_rO, zn_rE, zn_vb0, zn_vb1, zn_b1, zn_b0, zn_d1, zn_d0, zn_e1, zn_e0, zn_wN, zn_wB1, zn_wB0, zn_wO, zn_wOd, zn_wO0, zn_wE, zn_wEe, zn_wE0, zn_leT, zn_leF, zn_ltT, zn_ltF, zn_eqF, zn_eqT, zn_lt0, zn_0le, zn_d2a, zn_d2b, zn_e1a, zn_e1b, zn_10, zn_00, zn_sh4, zn_an15, true_imp_iff, false_imp_iff, imp_true_iff, not_true_eq_false, not_false_eq_true, zn_gT4, zn_gF4, zn_gT8, zn_gF8, zn_gT12, zn_gF12, zn_gT48, zn_gF48, zn_gT124, zn_gF124, zn_gT128, zn_gF128, zn_gT560, zn_gF560, zn_lT7, zn_lF7, zn_lT120, zn_lF120, zn_qT7, zn_qF7, zn_qT120, zn_qF120, zn_qT0, zn_qF0, zn_qT1, zn_qF1, zn_hT0, zn_hF0, zn_hT7, zn_hF7, zn_sb, pk_us, zn_us, hk]
        exact hp
      · rw [hk, decide_eq_false hl, if_neg (by decide)] at hp
        rw [wY_lost_7]
        simp (disch := omega) only [zn_k4, zn_k8, zn_k16, zn_k32, zn_m16, zn_a64, zn_a128, nI_add, nI_1, nI_clamp, vp_in_nI, true_and, and_true, forall_eq, zn_rN, zn_rB, zn_rO, zn_rE, zn_vb0, zn_vb1, zn_b1, zn_b0, zn_d1, zn_d0, zn_e1, zn_e0, zn_wN, zn_wB1, zn_wB0, zn_wO, zn_wOd, zn_wO0, zn_wE, zn_wEe, zn_wE0, zn_leT, zn_leF, zn_ltT, zn_ltF, zn_eqF, zn_eqT, zn_lt0, zn_0le, zn_d2a, zn_d2b, zn_e1a, zn_e1b, zn_10, zn_00, zn_sh4, zn_an15, true_imp_iff, false_imp_iff, imp_true_iff, not_true_eq_false, not_false_eq_true, zn_gT4, zn_gF4, zn_gT8, zn_gF8, zn_gT12, zn_gF12, zn_gT48, zn_gF48, zn_gT124, zn_gF124, zn_gT128, zn_gF128, zn_gT560, zn_gF560, zn_lT7, zn_lF7, zn_lT120, zn_lF120, zn_qT7, zn_qF7, zn_qT120, zn_qF120, zn_qT0, zn_qF0, zn_qT1, zn_qF1, zn_hT0, zn_hF0, zn_hT7, zn_hF7, zn_sb, pk_us, zn_us, hk]
        exact ih (k + 1) (by omega) hp
theorem zy_lost {post : Int32 → Prop} {z r : Nat} (hz : z < 124) (hr : r < 4) (hgp : ∀ j, gp j < 4) (hgi : ∀ j, gi j ≤ 7) (hgx : ∀ j, gx j ≤ 12) (hen : ∀ j, en j ≤ 12) (hp : post (zc_b (zq_lost gp gi gx en kn r z))) : wpY_lost post (nI n, nI sc, nI lm, nI sv, nI bg, nI rl, zc_N gp, zc_N gi, zc_N gx, gv, zc_E gq, zc_E gf, gr, ga, zc_N go, zc_B gs, zc_B gm, zc_B yp, zc_B yup, zc_N ix, zc_N ic, zc_N st, un, rp, dc, zc_N ch, zc_N en, zc_B kn, zc_B fl, zc_N to, zc_E sf, sr, sa, op, ol, ov) (nI z) (nI r) := by
  have h1 := hgi z
  unfold wpY_lost
  simp (disch := omega) only [zn_k4, zn_k8, zn_k16, zn_k32, zn_m16, zn_a64, zn_a128, nI_add, nI_1, nI_clamp, vp_in_nI, true_and, and_true, forall_eq, zn_rN, zn_rB, zn_rO, zn_rE, zn_vb0, zn_vb1, zn_b1, zn_b0, zn_d1, zn_d0, zn_e1, zn_e0, zn_wN, zn_wB1, zn_wB0, zn_wO, zn_wOd, zn_wO0, zn_wE, zn_wEe, zn_wE0, zn_leT, zn_leF, zn_ltT, zn_ltF, zn_eqF, zn_eqT, zn_lt0, zn_0le, zn_d2a, zn_d2b, zn_e1a, zn_e1b, zn_10, zn_00, zn_sh4, zn_an15, true_imp_iff, false_imp_iff, imp_true_iff, not_true_eq_false, not_false_eq_true, zn_gT4, zn_gF4, zn_gT8, zn_gF8, zn_gT12, zn_gF12, zn_gT48, zn_gF48, zn_gT124, zn_gF124, zn_gT128, zn_gF128, zn_gT560, zn_gF560, zn_lT7, zn_lF7, zn_lT120, zn_lF120, zn_qT7, zn_qF7, zn_qT120, zn_qF120, zn_qT0, zn_qF0, zn_qT1, zn_qF1, zn_hT0, zn_hF0, zn_hT7, zn_hF7, zn_sb, pk_us, zn_us]
  exact ⟨8 - gi z + 1, zy_lost_l hz hr hgp hgx hen (8 - gi z) (gi z) (by omega) hp⟩
theorem zy_orph_l {post : Int32 → SY → Prop} {r : Nat} (hr : r < 4) (hgp : ∀ j, gp j < 4) (hgi : ∀ j, gi j ≤ 7) (hgx : ∀ j, gx j ≤ 12) (hen : ∀ j, en j ≤ 12) (hP : ∀ z, z < 124 → yp z = P m z) : ∀ d x, x + d = 124 → post (zc_b (zf_ex (fun z => P m z && zq_lost gp gi gx en kn r z) d x)) (nI n, nI sc, nI lm, nI sv, nI bg, nI rl, zc_N gp, zc_N gi, zc_N gx, gv, zc_E gq, zc_E gf, gr, ga, zc_N go, zc_B gs, zc_B gm, zc_B yp, zc_B yup, zc_N ix, zc_N ic, zc_N st, un, rp, dc, zc_N ch, zc_N en, zc_B kn, zc_B fl, zc_N to, zc_E sf, sr, sa, op, ol, ov) → wY_orphan_7 post (nI r) (nI n) (nI sc) (nI lm) (nI sv) (nI bg) (nI rl) (zc_N gp) (zc_N gi) (zc_N gx) gv (zc_E gq) (zc_E gf) gr ga (zc_N go) (zc_B gs) (zc_B gm) (zc_B yp) (zc_B yup) (zc_N ix) (zc_N ic) (zc_N st) un rp dc (zc_N ch) (zc_N en) (zc_B kn) (zc_B fl) (zc_N to) (zc_E sf) sr sa op ol ov (d + 1) (nI x) := by
  intro d
  induction d with
  | zero =>
    intro x h hp
    obtain rfl : x = 124 := by omega
    exact br_t (by decide) hp
  | succ d ih =>
    intro x h hp
    have hx := hP x (by omega)
    rw [zf_ex_s] at hp
    try dsimp only at hp
    cases hq : P m x with
    | false =>
      rw [hq] at hx hp
      rw [Bool.false_and, if_neg (by decide)] at hp
      rw [wY_orphan_7]
      simp (disch := omega) only [zn_k4, zn_k8, zn_k16, zn_k32, zn_m16, zn_a64, zn_a128, nI_add, nI_1, nI_clamp, vp_in_nI, true_and, and_true, forall_eq, zn_rN, zn_rB, zn_rO, zn_rE, zn_vb0, zn_vb1, zn_b1, zn_b0, zn_d1, zn_d0, zn_e1, zn_e0, zn_wN, zn_wB1, zn_wB0, zn_wO, zn_wOd, zn_wO0, zn_wE, zn_wEe, zn_wE0, zn_leT, zn_leF, zn_ltT, zn_ltF, zn_eqF, zn_eqT, zn_lt0, zn_0le, zn_d2a, zn_d2b, zn_e1a, zn_e1b, zn_10, zn_00, zn_sh4, zn_an15, true_imp_iff, false_imp_iff, imp_true_iff, not_true_eq_false, not_false_eq_true, zn_gT4, zn_gF4, zn_gT8, zn_gF8, zn_gT12, zn_gF12, zn_gT48, zn_gF48, zn_gT124, zn_gF124, zn_gT128, zn_gF128, zn_gT560, zn_gF560, zn_lT7, zn_lF7, zn_lT120, zn_lF120, zn_qT7, zn_qF7, zn_qT120, zn_qF120, zn_qT0, zn_qF0, zn_qT1, zn_qF1, zn_hT0, zn_hF0, zn_hT7, zn_hF7, zn_sb, pk_us, zn_us, hx]
      exact ih (x + 1) (by omega) hp
    | true =>
      rw [hq] at hx hp
      rw [wY_orphan_7]
      simp (disch := omega) only [zn_k4, zn_k8, zn_k16, zn_k32, zn_m16, zn_a64, zn_a128, nI_add, nI_1, nI_clamp, vp_in_nI, true_and, and_true, forall_eq, zn_rN, zn_rB, zn_rO, zn_rE, zn_vb0, zn_vb1, zn_b1, zn_b0, zn_d1, zn_d0, zn_e1, zn_e0, zn_wN, zn_wB1, zn_wB0, zn_wO, zn_wOd, zn_wO0, zn_wE, zn_wEe, zn_wE0, zn_leT, zn_leF, zn_ltT, zn_ltF, zn_eqF, zn_eqT, zn_lt0, zn_0le, zn_d2a, zn_d2b, zn_e1a, zn_e1b, zn_10, zn_00, zn_sh4, zn_an15, true_imp_iff, false_imp_iff, imp_true_iff, not_true_eq_false, not_false_eq_true, zn_gT4, zn_gF4, zn_gT8, zn_gF8, zn_gT12, zn_gF12, zn_gT48, zn_gF48, zn_gT124, zn_gF124, zn_gT128, zn_gF128, zn_gT560, zn_gF560, zn_lT7, zn_lF7, zn_lT120, zn_lF120, zn_qT7, zn_qF7, zn_qT120, zn_qF120, zn_qT0, zn_qF0, zn_qT1, zn_qF1, zn_hT0, zn_hF0, zn_hT7, zn_hF7, zn_sb, pk_us, zn_us, hx]
      refine zy_lost (by omega) hr hgp hgi hgx hen ?_
      cases hl : zq_lost gp gi gx en kn r x with
      | false =>
        rw [hl, if_neg (by decide)] at hp
        simp (disch := omega) only [zn_k4, zn_k8, zn_k16, zn_k32, zn_m16, zn_a64, zn_a128, nI_add, nI_1, nI_clamp, vp_in_nI, true_and, and_true, forall_eq, zn_rN, zn_rB, zn_rO, zn_rE, zn_vb0, zn_vb1, zn_b1, zn_b0, zn_d1, zn_d0, zn_e1, zn_e0, zn_wN, zn_wB1, zn_wB0, zn_wO, zn_wOd, zn_wO0, zn_wE, zn_wEe, zn_wE0, zn_leT, zn_leF, zn_ltT, zn_ltF, zn_eqF, zn_eqT, zn_lt0, zn_0le, zn_d2a, zn_d2b, zn_e1a, zn_e1b, zn_10, zn_00, zn_sh4, zn_an15, true_imp_iff, false_imp_iff, imp_true_iff, not_true_eq_false, not_false_eq_true, zn_gT4, zn_gF4, zn_gT8, zn_gF8, zn_gT12, zn_gF12, zn_gT48, zn_gF48, zn_gT124, zn_gF124, zn_gT128, zn_gF128, zn_gT560, zn_gF560, zn_lT7, zn_lF7, zn_lT120, zn_lF120, zn_qT7, zn_qF7, zn_qT120, zn_qF120, zn_qT0, zn_qF0, zn_qT1, zn_qF1, zn_hT0, zn_hF0, zn_hT7, zn_hF7, zn_sb, pk_us, zn_us]
        exact ih (x + 1) (by omega) hp
      | true =>
        rw [hl, if_pos (by decide)] at hp
        simp (disch := omega) only [zn_k4, zn_k8, zn_k16, zn_k32, zn_m16, zn_a64, zn_a128, nI_add, nI_1, nI_clamp, vp_in_nI, true_and, and_true, forall_eq, zn_rN, zn_rB, zn_rO, zn_rE, zn_vb0, zn_vb1, zn_b1, zn_b0, zn_d1, zn_d0, zn_e1, zn_e0, zn_wN, zn_wB1, zn_wB0, zn_wO, zn_wOd, zn_wO0, zn_wE, zn_wEe, zn_wE0, zn_leT, zn_leF, zn_ltT, zn_ltF, zn_eqF, zn_eqT, zn_lt0, zn_0le, zn_d2a, zn_d2b, zn_e1a, zn_e1b, zn_10, zn_00, zn_sh4, zn_an15, true_imp_iff, false_imp_iff, imp_true_iff, not_true_eq_false, not_false_eq_true, zn_gT4, zn_gF4, zn_gT8, zn_gF8, zn_gT12, zn_gF12, zn_gT48, zn_gF48, zn_gT124, zn_gF124, zn_gT128, zn_gF128, zn_gT560, zn_gF560, zn_lT7, zn_lF7, zn_lT120, zn_lF120, zn_qT7, zn_qF7, zn_qT120, zn_qF120, zn_qT0, zn_qF0, zn_qT1, zn_qF1, zn_hT0, zn_hF0, zn_hT7, zn_hF7, zn_sb, pk_us, zn_us]
        exact hp
theorem zy_orph {post : Int32 → SY → Prop} {r : Nat} (G : zg_G N gq gf P) (hN : N ≤ 124) (hm : m ≤ N) (hr : r < 4) (hgp : ∀ j, gp j < 4) (hgi : ∀ j, gi j ≤ 7) (hgx : ∀ j, gx j ≤ 12) (hen : ∀ j, en j ≤ 12) (hp : ∀ b : Nat → Bool, post (zc_b (zq_yor P gp gi gx en kn m r)) (nI n, nI sc, nI lm, nI sv, nI bg, nI rl, zc_N gp, zc_N gi, zc_N gx, gv, zc_E gq, zc_E gf, gr, ga, zc_N go, zc_B gs, zc_B gm, zc_B (b), zc_B yup, zc_N ix, zc_N ic, zc_N st, un, rp, dc, zc_N ch, zc_N en, zc_B kn, zc_B fl, zc_N to, zc_E sf, sr, sa, op, ol, ov)) : wpY_orphan post (nI n, nI sc, nI lm, nI sv, nI bg, nI rl, zc_N gp, zc_N gi, zc_N gx, gv, zc_E gq, zc_E gf, gr, ga, zc_N go, zc_B gs, zc_B gm, zc_B yp, zc_B yup, zc_N ix, zc_N ic, zc_N st, un, rp, dc, zc_N ch, zc_N en, zc_B kn, zc_B fl, zc_N to, zc_E sf, sr, sa, op, ol, ov) (zc_e m) (nI r) := by
  unfold wpY_orphan
  refine zy_walk G hN hm (fun b hb => ?_)
  exact ⟨125, zy_orph_l hr hgp hgi hgx hen hb 124 0 (by omega) (hp b)⟩
theorem zy_wait_i {post : Int32 → SY → Prop} {J : Int32 → Prop} {z r : Nat} (hz : z < 124) (hr : r < 4) (hgp : ∀ j, gp j < 4) (hgi : ∀ j, gi j ≤ 7) (hP : yp z = true) (hp : zf_ex (fun k => !kn (r * 32 + gp z * 8 + k)) (gi z) 0 = true → post 1 (nI n, nI sc, nI lm, nI sv, nI bg, nI rl, zc_N gp, zc_N gi, zc_N gx, gv, zc_E gq, zc_E gf, gr, ga, zc_N go, zc_B gs, zc_B gm, zc_B yp, zc_B yup, zc_N ix, zc_N ic, zc_N st, un, rp, dc, zc_N ch, zc_N en, zc_B kn, zc_B fl, zc_N to, zc_E sf, sr, sa, op, ol, ov)) (hJ : zf_ex (fun k => !kn (r * 32 + gp z * 8 + k)) (gi z) 0 = false → J (nI (z + 1))) : ∀ d k, k + d = gi z → (∀ j, j < k → kn (r * 32 + gp z * 8 + j) = true) → wY_mustWait_16 post J (nI r) (nI z) (nI n) (nI sc) (nI lm) (nI sv) (nI bg) (nI rl) (zc_N gp) (zc_N gi) (zc_N gx) gv (zc_E gq) (zc_E gf) gr ga (zc_N go) (zc_B gs) (zc_B gm) (zc_B yp) (zc_B yup) (zc_N ix) (zc_N ic) (zc_N st) un rp dc (zc_N ch) (zc_N en) (zc_B kn) (zc_B fl) (zc_N to) (zc_E sf) sr sa op ol ov (d + 1) (nI k) := by
  intro d
  induction d with
  | zero =>
    intro k h hk
    have h1 := hgi z
    obtain rfl : k = gi z := by omega
    rw [wY_mustWait_16]
    simp (disch := omega) only [zn_k4, zn_k8, zn_k16, zn_k32, zn_m16, zn_a64, zn_a128, nI_add, nI_1, nI_clamp, vp_in_nI, true_and, and_true, forall_eq, zn_rN, zn_rB, zn_rO, zn_rE, zn_vb0, zn_vb1, zn_b1, zn_b0, zn_d1, zn_d0, zn_e1, zn_e0, zn_wN, zn_wB1, zn_wB0, zn_wO, zn_wOd, zn_wO0, zn_wE, zn_wEe, zn_wE0, zn_leT, zn_leF, zn_ltT, zn_ltF, zn_eqF, zn_eqT, zn_lt0, zn_0le, zn_d2a, zn_d2b, zn_e1a, zn_e1b, zn_10, zn_00, zn_sh4, zn_an15, true_imp_iff, false_imp_iff, imp_true_iff, not_true_eq_false, not_false_eq_true, zn_gT4, zn_gF4, zn_gT8, zn_gF8, zn_gT12, zn_gF12, zn_gT48, zn_gF48, zn_gT124, zn_gF124, zn_gT128, zn_gF128, zn_gT560, zn_gF560, zn_lT7, zn_lF7, zn_lT120, zn_lF120, zn_qT7, zn_qF7, zn_qT120, zn_qF120, zn_qT0, zn_qF0, zn_qT1, zn_qF1, zn_hT0, zn_hF0, zn_hT7, zn_hF7, zn_sb, pk_us, zn_us]
    exact hJ ((zf_ex_f _ _ _).mpr (fun j _ h2 => by (try dsimp only); rw [hk j (by omega)]; rfl))
  | succ d ih =>
    intro k h hk
    have h1 := hgi z
    have h2 := hgp z
    cases hq : kn (r * 32 + gp z * 8 + k) with
    | false =>
      rw [wY_mustWait_16]
      simp (disch := omega) only [zn_k4, zn_k8, zn_k16, zn_k32, zn_m16, zn_a64, zn_a128, nI_add, nI_1, nI_clamp, vp_in_nI, true_and, and_true, forall_eq, zn_rN, zn_rB, zn_rO, zn_rE, zn_vb0, zn_vb1, zn_b1, zn_b0, zn_d1, zn_d0, zn_e1, zn_e0, zn_wN, zn_wB1, zn_wB0, zn_wO, zn_wOd, zn_wO0, zn_wE, zn_wEe, zn_wE0, zn_leT, zn_leF, zn_ltT, zn_ltF, zn_eqF, zn_eqT, zn_lt0, zn_0le, zn_d2a, zn_d2b, zn_e1a, zn_e1b, zn_10, zn_00, zn_sh4, zn_an15, true_imp_iff, false_imp_iff, imp_true_iff, not_true_eq_false, not_false_eq_true, zn_gT4, zn_gF4, zn_gT8, zn_gF8, zn_gT12, zn_gF12, zn_gT48, zn_gF48, zn_gT124, zn_gF124, zn_gT128, zn_gF128, zn_gT560, zn_gF560, zn_lT7, zn_lF7, zn_lT120, zn_lF120, zn_qT7, zn_qF7, zn_qT120, zn_qF120, zn_qT0, zn_qF0, zn_qT1, zn_qF1, zn_hT0, zn_hF0, zn_hT7, zn_hF7, zn_sb, pk_us, zn_us, hP, hq]
      exact hp ((zf_ex_iff _ _ _).mpr ⟨k, by omega, by omega, by (try dsimp only); rw [hq]; rfl⟩)
    | true =>
      rw [wY_mustWait_16]
      simp (disch := omega) only [zn_k4, zn_k8, zn_k16, zn_k32, zn_m16, zn_a64, zn_a128, nI_add, nI_1, nI_clamp, vp_in_nI, true_and, and_true, forall_eq, zn_rN, zn_rB, zn_rO, zn_rE, zn_vb0, zn_vb1, zn_b1, zn_b0, zn_d1, zn_d0, zn_e1, zn_e0, zn_wN, zn_wB1, zn_wB0, zn_wO, zn_wOd, zn_wO0, zn_wE, zn_wEe, zn_wE0, zn_leT, zn_leF, zn_ltT, zn_ltF, zn_eqF, zn_eqT, zn_lt0, zn_0le, zn_d2a, zn_d2b, zn_e1a, zn_e1b, zn_10, zn_00, zn_sh4, zn_an15, true_imp_iff, false_imp_iff, imp_true_iff, not_true_eq_false, not_false_eq_true, zn_gT4, zn_gF4, zn_gT8, zn_gF8, zn_gT12, zn_gF12, zn_gT48, zn_gF48, zn_gT124, zn_gF124, zn_gT128, zn_gF128, zn_gT560, zn_gF560, zn_lT7, zn_lF7, zn_lT120, zn_lF120, zn_qT7, zn_qF7, zn_qT120, zn_qF120, zn_qT0, zn_qF0, zn_qT1, zn_qF1, zn_hT0, zn_hF0, zn_hT7, zn_hF7, zn_sb, pk_us, zn_us, hP, hq]
      refine ih (k + 1) (by omega) (fun j hj => ?_)
      rcases Nat.lt_or_ge j k with h3 | h3
      · exact hk j h3
      · obtain rfl : j = k := by omega
        exact hq
theorem zy_wait_o {post : Int32 → SY → Prop} {J : Int32 → Prop} {z r : Nat} (hz : z < 124) (hgi : ∀ j, gi j ≤ 7) (hP : yp z = false) (hJ : J (nI (z + 1))) : ∀ d k, k + d = gi z → wY_mustWait_16 post J (nI r) (nI z) (nI n) (nI sc) (nI lm) (nI sv) (nI bg) (nI rl) (zc_N gp) (zc_N gi) (zc_N gx) gv (zc_E gq) (zc_E gf) gr ga (zc_N go) (zc_B gs) (zc_B gm) (zc_B yp) (zc_B yup) (zc_N ix) (zc_N ic) (zc_N st) un rp dc (zc_N ch) (zc_N en) (zc_B kn) (zc_B fl) (zc_N to) (zc_E sf) sr sa op ol ov (d + 1) (nI k) := by
  intro d
  induction d with
  | zero =>
    intro k h
    have h1 := hgi z
    obtain rfl : k = gi z := by omega
    rw [wY_mustWait_16]
    simp (disch := omega) only [zn_k4, zn_k8, zn_k16, zn_k32, zn_m16, zn_a64, zn_a128, nI_add, nI_1, nI_clamp, vp_in_nI, true_and, and_true, forall_eq, zn_rN, zn_rB, zn_rO, zn_rE, zn_vb0, zn_vb1, zn_b1, zn_b0, zn_d1, zn_d0, zn_e1, zn_e0, zn_wN, zn_wB1, zn_wB0, zn_wO, zn_wOd, zn_wO0, zn_wE, zn_wEe, zn_wE0, zn_leT, zn_leF, zn_ltT, zn_ltF, zn_eqF, zn_eqT, zn_lt0, zn_0le, zn_d2a, zn_d2b, zn_e1a, zn_e1b, zn_10, zn_00, zn_sh4, zn_an15, true_imp_iff, false_imp_iff, imp_true_iff, not_true_eq_false, not_false_eq_true, zn_gT4, zn_gF4, zn_gT8, zn_gF8, zn_gT12, zn_gF12, zn_gT48, zn_gF48, zn_gT124, zn_gF124, zn_gT128, zn_gF128, zn_gT560, zn_gF560, zn_lT7, zn_lF7, zn_lT120, zn_lF120, zn_qT7, zn_qF7, zn_qT120, zn_qF120, zn_qT0, zn_qF0, zn_qT1, zn_qF1, zn_hT0, zn_hF0, zn_hT7, zn_hF7, zn_sb, pk_us, zn_us]
    exact hJ
  | succ d ih =>
    intro k h
    have h1 := hgi z
    rw [wY_mustWait_16]
    simp (disch := omega) only [zn_k4, zn_k8, zn_k16, zn_k32, zn_m16, zn_a64, zn_a128, nI_add, nI_1, nI_clamp, vp_in_nI, true_and, and_true, forall_eq, zn_rN, zn_rB, zn_rO, zn_rE, zn_vb0, zn_vb1, zn_b1, zn_b0, zn_d1, zn_d0, zn_e1, zn_e0, zn_wN, zn_wB1, zn_wB0, zn_wO, zn_wOd, zn_wO0, zn_wE, zn_wEe, zn_wE0, zn_leT, zn_leF, zn_ltT, zn_ltF, zn_eqF, zn_eqT, zn_lt0, zn_0le, zn_d2a, zn_d2b, zn_e1a, zn_e1b, zn_10, zn_00, zn_sh4, zn_an15, true_imp_iff, false_imp_iff, imp_true_iff, not_true_eq_false, not_false_eq_true, zn_gT4, zn_gF4, zn_gT8, zn_gF8, zn_gT12, zn_gF12, zn_gT48, zn_gF48, zn_gT124, zn_gF124, zn_gT128, zn_gF128, zn_gT560, zn_gF560, zn_lT7, zn_lF7, zn_lT120, zn_lF120, zn_qT7, zn_qF7, zn_qT120, zn_qF120, zn_qT0, zn_qF0, zn_qT1, zn_qF1, zn_hT0, zn_hF0, zn_hT7, zn_hF7, zn_sb, pk_us, zn_us, hP]
    exact ih (k + 1) (by omega)
theorem zy_wait_l {post : Int32 → SY → Prop} {r : Nat} (hr : r < 4) (hgp : ∀ j, gp j < 4) (hgi : ∀ j, gi j ≤ 7) (hP : ∀ z, z < 124 → yp z = P m z) : ∀ d x, x + d = 124 → post (zc_b (zf_ex (fun z => P m z && zq_yw gp gi kn r z) d x)) (nI n, nI sc, nI lm, nI sv, nI bg, nI rl, zc_N gp, zc_N gi, zc_N gx, gv, zc_E gq, zc_E gf, gr, ga, zc_N go, zc_B gs, zc_B gm, zc_B yp, zc_B yup, zc_N ix, zc_N ic, zc_N st, un, rp, dc, zc_N ch, zc_N en, zc_B kn, zc_B fl, zc_N to, zc_E sf, sr, sa, op, ol, ov) → wY_mustWait_7 post (nI r) (nI n) (nI sc) (nI lm) (nI sv) (nI bg) (nI rl) (zc_N gp) (zc_N gi) (zc_N gx) gv (zc_E gq) (zc_E gf) gr ga (zc_N go) (zc_B gs) (zc_B gm) (zc_B yp) (zc_B yup) (zc_N ix) (zc_N ic) (zc_N st) un rp dc (zc_N ch) (zc_N en) (zc_B kn) (zc_B fl) (zc_N to) (zc_E sf) sr sa op ol ov (d + 1) (nI x) := by
  intro d
  induction d with
  | zero =>
    intro x h hp
    obtain rfl : x = 124 := by omega
    exact br_t (by decide) hp
  | succ d ih =>
    intro x h hp
    have hx := hP x (by omega)
    rw [zf_ex_s] at hp
    try dsimp only at hp
    rw [wY_mustWait_7]
    simp (disch := omega) only [zn_k4, zn_k8, zn_k16, zn_k32, zn_m16, zn_a64, zn_a128, nI_add, nI_1, nI_clamp, vp_in_nI, true_and, and_true, forall_eq, zn_rN, zn_rB, zn_rO, zn_rE, zn_vb0, zn_vb1, zn_b1, zn_b0, zn_d1, zn_d0, zn_e1, zn_e0, zn_wN, zn_wB1, zn_wB0, zn_wO, zn_wOd, zn_wO0, zn_wE, zn_wEe, zn_wE0, zn_leT, zn_leF, zn_ltT, zn_ltF, zn_eqF, zn_eqT, zn_lt0, zn_0le, zn_d2a, zn_d2b, zn_e1a, zn_e1b, zn_10, zn_00, zn_sh4, zn_an15, true_imp_iff, false_imp_iff, imp_true_iff, not_true_eq_false, not_false_eq_true, zn_gT4, zn_gF4, zn_gT8, zn_gF8, zn_gT12, zn_gF12, zn_gT48, zn_gF48, zn_gT124, zn_gF124, zn_gT128, zn_gF128, zn_gT560, zn_gF560, zn_lT7, zn_lF7, zn_lT120, zn_lF120, zn_qT7, zn_qF7, zn_qT120, zn_qF120, zn_qT0, zn_qF0, zn_qT1, zn_qF1, zn_hT0, zn_hF0, zn_hT7, zn_hF7, zn_sb, pk_us, zn_us]
    cases hq : P m x with
    | false =>
      rw [hq] at hx hp
      rw [Bool.false_and, if_neg (by decide)] at hp
      exact ⟨gi x + 1, zy_wait_o (by omega) hgi hx (ih (x + 1) (by omega) hp) (gi x) 0 (by omega)⟩
    | true =>
      rw [hq] at hx hp
      refine ⟨gi x + 1, zy_wait_i (by omega) hr hgp hgi hx (fun h1 => ?_) (fun h1 => ?_) (gi x) 0 (by omega) (fun j hj => absurd hj (by omega))⟩
      · rw [if_pos (show (true && zq_yw gp gi kn r x) = true from h1)] at hp
        exact hp
      · rw [if_neg (show ¬ (true && zq_yw gp gi kn r x) = true by rw [show zq_yw gp gi kn r x = false from h1]; decide)] at hp
        exact ih (x + 1) (by omega) hp
theorem zy_wait {post : Int32 → SY → Prop} {r : Nat} (G : zg_G N gq gf P) (hN : N ≤ 124) (hm : m ≤ N) (hr : r < 4) (hgp : ∀ j, gp j < 4) (hgi : ∀ j, gi j ≤ 7) (hp : ∀ b : Nat → Bool, post (zc_b (zq_ywt P gp gi kn m r)) (nI n, nI sc, nI lm, nI sv, nI bg, nI rl, zc_N gp, zc_N gi, zc_N gx, gv, zc_E gq, zc_E gf, gr, ga, zc_N go, zc_B gs, zc_B gm, zc_B (b), zc_B yup, zc_N ix, zc_N ic, zc_N st, un, rp, dc, zc_N ch, zc_N en, zc_B kn, zc_B fl, zc_N to, zc_E sf, sr, sa, op, ol, ov)) : wpY_mustWait post (nI n, nI sc, nI lm, nI sv, nI bg, nI rl, zc_N gp, zc_N gi, zc_N gx, gv, zc_E gq, zc_E gf, gr, ga, zc_N go, zc_B gs, zc_B gm, zc_B yp, zc_B yup, zc_N ix, zc_N ic, zc_N st, un, rp, dc, zc_N ch, zc_N en, zc_B kn, zc_B fl, zc_N to, zc_E sf, sr, sa, op, ol, ov) (zc_e m) (nI r) := by
  unfold wpY_mustWait
  refine zy_walk G hN hm (fun b hb => ?_)
  exact ⟨125, zy_wait_l hr hgp hgi hb 124 0 (by omega) (hp b)⟩
theorem zy_am_l {post : Int32 → SY → Prop} {r : Nat} (hr : r < 4) (hP : ∀ z, z < 124 → yp z = P m z) : ∀ d x, x + d = 124 → post (zc_b (!zf_ex (fun z => P m z && !gm (z * 4 + r)) d x)) (nI n, nI sc, nI lm, nI sv, nI bg, nI rl, zc_N gp, zc_N gi, zc_N gx, gv, zc_E gq, zc_E gf, gr, ga, zc_N go, zc_B gs, zc_B gm, zc_B yp, zc_B yup, zc_N ix, zc_N ic, zc_N st, un, rp, dc, zc_N ch, zc_N en, zc_B kn, zc_B fl, zc_N to, zc_E sf, sr, sa, op, ol, ov) → wY_allMarked_7 post (nI r) (nI n) (nI sc) (nI lm) (nI sv) (nI bg) (nI rl) (zc_N gp) (zc_N gi) (zc_N gx) gv (zc_E gq) (zc_E gf) gr ga (zc_N go) (zc_B gs) (zc_B gm) (zc_B yp) (zc_B yup) (zc_N ix) (zc_N ic) (zc_N st) un rp dc (zc_N ch) (zc_N en) (zc_B kn) (zc_B fl) (zc_N to) (zc_E sf) sr sa op ol ov (d + 1) (nI x) := by
  intro d
  induction d with
  | zero =>
    intro x h hp
    obtain rfl : x = 124 := by omega
    exact br_t (by decide) hp
  | succ d ih =>
    intro x h hp
    have hx := hP x (by omega)
    rw [zf_ex_s] at hp
    try dsimp only at hp
    cases hq : P m x with
    | false =>
      rw [hq] at hx hp
      rw [Bool.false_and, if_neg (by decide)] at hp
      rw [wY_allMarked_7]
      simp (disch := omega) only [zn_k4, zn_k8, zn_k16, zn_k32, zn_m16, zn_a64, zn_a128, nI_add, nI_1, nI_clamp, vp_in_nI, true_and, and_true, forall_eq, zn_rN, zn_rB, zn_rO, zn_rE, zn_vb0, zn_vb1, zn_b1, zn_b0, zn_d1, zn_d0, zn_e1, zn_e0, zn_wN, zn_wB1, zn_wB0, zn_wO, zn_wOd, zn_wO0, zn_wE, zn_wEe, zn_wE0, zn_leT, zn_leF, zn_ltT, zn_ltF, zn_eqF, zn_eqT, zn_lt0, zn_0le, zn_d2a, zn_d2b, zn_e1a, zn_e1b, zn_10, zn_00, zn_sh4, zn_an15, true_imp_iff, false_imp_iff, imp_true_iff, not_true_eq_false, not_false_eq_true, zn_gT4, zn_gF4, zn_gT8, zn_gF8, zn_gT12, zn_gF12, zn_gT48, zn_gF48, zn_gT124, zn_gF124, zn_gT128, zn_gF128, zn_gT560, zn_gF560, zn_lT7, zn_lF7, zn_lT120, zn_lF120, zn_qT7, zn_qF7, zn_qT120, zn_qF120, zn_qT0, zn_qF0, zn_qT1, zn_qF1, zn_hT0, zn_hF0, zn_hT7, zn_hF7, zn_sb, pk_us, zn_us, hx]
      exact ih (x + 1) (by omega) hp
    | true =>
      rw [hq] at hx hp
      cases hl : gm (x * 4 + r) with
      | true =>
        rw [hl, if_neg (by decide)] at hp
        rw [wY_allMarked_7]
        simp (disch := omega) only [zn_k4, zn_k8, zn_k16, zn_k32, zn_m16, zn_a64, zn_a128, nI_add, nI_1, nI_clamp, vp_in_nI, true_and, and_true, forall_eq, zn_rN, zn_rB, zn_rO, zn_rE, zn_vb0, zn_vb1, zn_b1, zn_b0, zn_d1, zn_d0, zn_e1, zn_e0, zn_wN, zn_wB1, zn_wB0, zn_wO, zn_wOd, zn_wO0, zn_wE, zn_wEe, zn_wE0, zn_leT, zn_leF, zn_ltT, zn_ltF, zn_eqF, zn_eqT, zn_lt0, zn_0le, zn_d2a, zn_d2b, zn_e1a, zn_e1b, zn_10, zn_00, zn_sh4, zn_an15, true_imp_iff, false_imp_iff, imp_true_iff, not_true_eq_false, not_false_eq_true, zn_gT4, zn_gF4, zn_gT8, zn_gF8, zn_gT12, zn_gF12, zn_gT48, zn_gF48, zn_gT124, zn_gF124, zn_gT128, zn_gF128, zn_gT560, zn_gF560, zn_lT7, zn_lF7, zn_lT120, zn_lF120, zn_qT7, zn_qF7, zn_qT120, zn_qF120, zn_qT0, zn_qF0, zn_qT1, zn_qF1, zn_hT0, zn_hF0, zn_hT7, zn_hF7, zn_sb, pk_us, zn_us, hx, hl]
        exact ih (x + 1) (by omega) hp
      | false =>
        rw [hl, if_pos (by decide)] at hp
        rw [wY_allMarked_7]
        simp (disch := omega) only [zn_k4, zn_k8, zn_k16, zn_k32, zn_m16, zn_a64, zn_a128, nI_add, nI_1, nI_clamp, vp_in_nI, true_and, and_true, forall_eq, zn_rN, zn_rB, zn_rO, zn_rE, zn_vb0, zn_vb1, zn_b1, zn_b0, zn_d1, zn_d0, zn_e1, zn_e0, zn_wN, zn_wB1, zn_wB0, zn_wO, zn_wOd, zn_wO0, zn_wE, zn_wEe, zn_wE0, zn_leT, zn_leF, zn_ltT, zn_ltF, zn_eqF, zn_eqT, zn_lt0, zn_0le, zn_d2a, zn_d2b, zn_e1a, zn_e1b, zn_10, zn_00, zn_sh4, zn_an15, true_imp_iff, false_imp_iff, imp_true_iff, not_true_eq_false, not_false_eq_true, zn_gT4, zn_gF4, zn_gT8, zn_gF8, zn_gT12, zn_gF12, zn_gT48, zn_gF48, zn_gT124, zn_gF124, zn_gT128, zn_gF128, zn_gT560, zn_gF560, zn_lT7, zn_lF7, zn_lT120, zn_lF120, zn_qT7, zn_qF7, zn_qT120, zn_qF120, zn_qT0, zn_qF0, zn_qT1, zn_qF1, zn_hT0, zn_hF0, zn_hT7, zn_hF7, zn_sb, pk_us, zn_us, hx, hl]
        exact hp
theorem zy_am {post : Int32 → SY → Prop} {r : Nat} (G : zg_G N gq gf P) (hN : N ≤ 124) (hm : m ≤ N) (hr : r < 4) (hp : ∀ b : Nat → Bool, post (zc_b (zq_yam P gm m r)) (nI n, nI sc, nI lm, nI sv, nI bg, nI rl, zc_N gp, zc_N gi, zc_N gx, gv, zc_E gq, zc_E gf, gr, ga, zc_N go, zc_B gs, zc_B gm, zc_B (b), zc_B yup, zc_N ix, zc_N ic, zc_N st, un, rp, dc, zc_N ch, zc_N en, zc_B kn, zc_B fl, zc_N to, zc_E sf, sr, sa, op, ol, ov)) : wpY_allMarked post (nI n, nI sc, nI lm, nI sv, nI bg, nI rl, zc_N gp, zc_N gi, zc_N gx, gv, zc_E gq, zc_E gf, gr, ga, zc_N go, zc_B gs, zc_B gm, zc_B yp, zc_B yup, zc_N ix, zc_N ic, zc_N st, un, rp, dc, zc_N ch, zc_N en, zc_B kn, zc_B fl, zc_N to, zc_E sf, sr, sa, op, ol, ov) (zc_e m) (nI r) := by
  unfold wpY_allMarked
  refine zy_walk G hN hm (fun b hb => ?_)
  exact ⟨125, zy_am_l hr hb 124 0 (by omega) (hp b)⟩
theorem zy_gr_l {post : Int32 → SY → Prop} {x : Nat} (hx4 : x < 4) (hgp : ∀ j, gp j < 4) (hgi : ∀ j, gi j ≤ 7) (hgx : ∀ j, gx j ≤ 12) (hP : ∀ z, z < 124 → yp z = P m z) : ∀ d z b, b ≤ 128 → z + d = 124 → post (zc_d (zf_mx (zq_gw P gp gi gx m x) d z b)) (nI n, nI sc, nI lm, nI sv, nI bg, nI rl, zc_N gp, zc_N gi, zc_N gx, gv, zc_E gq, zc_E gf, gr, ga, zc_N go, zc_B gs, zc_B gm, zc_B yp, zc_B yup, zc_N ix, zc_N ic, zc_N st, un, rp, dc, zc_N ch, zc_N en, zc_B kn, zc_B fl, zc_N to, zc_E sf, sr, sa, op, ol, ov) → wY_greatest_11 post (nI x) (nI n) (nI sc) (nI lm) (nI sv) (nI bg) (nI rl) (zc_N gp) (zc_N gi) (zc_N gx) gv (zc_E gq) (zc_E gf) gr ga (zc_N go) (zc_B gs) (zc_B gm) (zc_B yp) (zc_B yup) (zc_N ix) (zc_N ic) (zc_N st) un rp dc (zc_N ch) (zc_N en) (zc_B kn) (zc_B fl) (zc_N to) (zc_E sf) sr sa op ol ov (d + 1) (zc_d b) (nI z) := by
  intro d
  induction d with
  | zero =>
    intro z b hb h hp
    obtain rfl : z = 124 := by omega
    exact br_t (by decide) hp
  | succ d ih =>
    intro z b hb h hp
    have hx := hP z (by omega)
    have h1 := hgp z
    have h2 := hgi z
    have h3 := hgx z
    rw [zf_mx_s] at hp
    cases hq : P m z with
    | false =>
      rw [hq] at hx
      have hw : zq_gw P gp gi gx m x z = 0 := if_neg (by rw [hq]; exact fun w => absurd w.1 (by decide))
      rw [hw, if_pos (Nat.zero_le _)] at hp
      rw [wY_greatest_11]
      simp (disch := omega) only [zn_k4, zn_k8, zn_k16, zn_k32, zn_m16, zn_a64, zn_a128, nI_add, nI_1, nI_clamp, vp_in_nI, true_and, and_true, forall_eq, zn_rN, zn_rB, zn_rO, zn_rE, zn_vb0, zn_vb1, zn_b1, zn_b0, zn_d1, zn_d0, zn_e1, zn_e0, zn_wN, zn_wB1, zn_wB0, zn_wO, zn_wOd, zn_wO0, zn_wE, zn_wEe, zn_wE0, zn_leT, zn_leF, zn_ltT, zn_ltF, zn_eqF, zn_eqT, zn_lt0, zn_0le, zn_d2a, zn_d2b, zn_e1a, zn_e1b, zn_10, zn_00, zn_sh4, zn_an15, true_imp_iff, false_imp_iff, imp_true_iff, not_true_eq_false, not_false_eq_true, zn_gT4, zn_gF4, zn_gT8, zn_gF8, zn_gT12, zn_gF12, zn_gT48, zn_gF48, zn_gT124, zn_gF124, zn_gT128, zn_gF128, zn_gT560, zn_gF560, zn_lT7, zn_lF7, zn_lT120, zn_lF120, zn_qT7, zn_qF7, zn_qT120, zn_qF120, zn_qT0, zn_qF0, zn_qT1, zn_qF1, zn_hT0, zn_hF0, zn_hT7, zn_hF7, zn_sb, pk_us, zn_us, hx]
      exact ih (z + 1) b hb (by omega) hp
    | true =>
      rw [hq] at hx
      by_cases hg : gp z = x
      · have hw : zq_gw P gp gi gx m x z = 16 * gi z + gx z + 1 := if_pos ⟨hq, hg⟩
        rw [hw] at hp
        have hd := zn_dle (16 * gi z + gx z + 1) b (by omega) (by omega)
        rw [zn_d1] at hd
        by_cases hle : 16 * gi z + gx z + 1 ≤ b
        · rw [if_pos hle] at hp
          rw [wY_greatest_11]
          simp (disch := omega) only [zn_k4, zn_k8, zn_k16, zn_k32, zn_m16, zn_a64, zn_a128, nI_add, nI_1, nI_clamp, vp_in_nI, true_and, and_true, forall_eq, zn_rN, zn_rB, zn_rO, zn_rE, zn_vb0, zn_vb1, zn_b1, zn_b0, zn_d1, zn_d0, zn_e1, zn_e0, zn_wN, zn_wB1, zn_wB0, zn_wO, zn_wOd, zn_wO0, zn_wE, zn_wEe, zn_wE0, zn_leT, zn_leF, zn_ltT, zn_ltF, zn_eqF, zn_eqT, zn_lt0, zn_0le, zn_d2a, zn_d2b, zn_e1a, zn_e1b, zn_10, zn_00, zn_sh4, zn_an15, true_imp_iff, false_imp_iff, imp_true_iff, not_true_eq_false, not_false_eq_true, zn_gT4, zn_gF4, zn_gT8, zn_gF8, zn_gT12, zn_gF12, zn_gT48, zn_gF48, zn_gT124, zn_gF124, zn_gT128, zn_gF128, zn_gT560, zn_gF560, zn_lT7, zn_lF7, zn_lT120, zn_lF120, zn_qT7, zn_qF7, zn_qT120, zn_qF120, zn_qT0, zn_qF0, zn_qT1, zn_qF1, zn_hT0, zn_hF0, zn_hT7, zn_hF7, zn_sb, pk_us, zn_us, hx, eq_true (hd.mpr hle)]
          exact ih (z + 1) b hb (by omega) hp
        · rw [if_neg hle] at hp
          rw [wY_greatest_11]
          simp (disch := omega) only [zn_k4, zn_k8, zn_k16, zn_k32, zn_m16, zn_a64, zn_a128, nI_add, nI_1, nI_clamp, vp_in_nI, true_and, and_true, forall_eq, zn_rN, zn_rB, zn_rO, zn_rE, zn_vb0, zn_vb1, zn_b1, zn_b0, zn_d1, zn_d0, zn_e1, zn_e0, zn_wN, zn_wB1, zn_wB0, zn_wO, zn_wOd, zn_wO0, zn_wE, zn_wEe, zn_wE0, zn_leT, zn_leF, zn_ltT, zn_ltF, zn_eqF, zn_eqT, zn_lt0, zn_0le, zn_d2a, zn_d2b, zn_e1a, zn_e1b, zn_10, zn_00, zn_sh4, zn_an15, true_imp_iff, false_imp_iff, imp_true_iff, not_true_eq_false, not_false_eq_true, zn_gT4, zn_gF4, zn_gT8, zn_gF8, zn_gT12, zn_gF12, zn_gT48, zn_gF48, zn_gT124, zn_gF124, zn_gT128, zn_gF128, zn_gT560, zn_gF560, zn_lT7, zn_lF7, zn_lT120, zn_lF120, zn_qT7, zn_qF7, zn_qT120, zn_qF120, zn_qT0, zn_qF0, zn_qT1, zn_qF1, zn_hT0, zn_hF0, zn_hT7, zn_hF7, zn_sb, pk_us, zn_us, hx, eq_false (fun w => hle (hd.mp w))]
          exact ih (z + 1) (16 * gi z + gx z + 1) (by omega) (by omega) hp
      · have hw : zq_gw P gp gi gx m x z = 0 := if_neg (fun w => hg w.2)
        rw [hw, if_pos (Nat.zero_le _)] at hp
        rw [wY_greatest_11]
        simp (disch := omega) only [zn_k4, zn_k8, zn_k16, zn_k32, zn_m16, zn_a64, zn_a128, nI_add, nI_1, nI_clamp, vp_in_nI, true_and, and_true, forall_eq, zn_rN, zn_rB, zn_rO, zn_rE, zn_vb0, zn_vb1, zn_b1, zn_b0, zn_d1, zn_d0, zn_e1, zn_e0, zn_wN, zn_wB1, zn_wB0, zn_wO, zn_wOd, zn_wO0, zn_wE, zn_wEe, zn_wE0, zn_leT, zn_leF, zn_ltT, zn_ltF, zn_eqF, zn_eqT, zn_lt0, zn_0le, zn_d2a, zn_d2b, zn_e1a, zn_e1b, zn_10, zn_00, zn_sh4, zn_an15, true_imp_iff, false_imp_iff, imp_true_iff, not_true_eq_false, not_false_eq_true, zn_gT4, zn_gF4, zn_gT8, zn_gF8, zn_gT12, zn_gF12, zn_gT48, zn_gF48, zn_gT124, zn_gF124, zn_gT128, zn_gF128, zn_gT560, zn_gF560, zn_lT7, zn_lF7, zn_lT120, zn_lF120, zn_qT7, zn_qF7, zn_qT120, zn_qF120, zn_qT0, zn_qF0, zn_qT1, zn_qF1, zn_hT0, zn_hF0, zn_hT7, zn_hF7, zn_sb, pk_us, zn_us, hx]
        exact ih (z + 1) b hb (by omega) hp
theorem zy_gr {post : Int32 → SY → Prop} {x : Nat} (G : zg_G N gq gf P) (hN : N ≤ 124) (hm : m ≤ N) (hx4 : x < 4) (hgp : ∀ j, gp j < 4) (hgi : ∀ j, gi j ≤ 7) (hgx : ∀ j, gx j ≤ 12) (hp : ∀ b : Nat → Bool, post (zc_d (zq_gr P gp gi gx m x)) (nI n, nI sc, nI lm, nI sv, nI bg, nI rl, zc_N gp, zc_N gi, zc_N gx, gv, zc_E gq, zc_E gf, gr, ga, zc_N go, zc_B gs, zc_B gm, zc_B (b), zc_B yup, zc_N ix, zc_N ic, zc_N st, un, rp, dc, zc_N ch, zc_N en, zc_B kn, zc_B fl, zc_N to, zc_E sf, sr, sa, op, ol, ov)) : wpY_greatest post (nI n, nI sc, nI lm, nI sv, nI bg, nI rl, zc_N gp, zc_N gi, zc_N gx, gv, zc_E gq, zc_E gf, gr, ga, zc_N go, zc_B gs, zc_B gm, zc_B yp, zc_B yup, zc_N ix, zc_N ic, zc_N st, un, rp, dc, zc_N ch, zc_N en, zc_B kn, zc_B fl, zc_N to, zc_E sf, sr, sa, op, ol, ov) (zc_e m) (nI x) := by
  unfold wpY_greatest
  refine zy_walk G hN hm (fun b hb => ?_)
  exact ⟨125, zy_gr_l hx4 hgp hgi hgx hb 124 0 0 (by omega) (by omega) (hp b)⟩
end
end
section
/-! the reference's other loops and stores -/
def zm_mk (gm : Nat → Bool) (ch : Nat → Nat) (p r : Nat) : Nat → Nat → Bool
  | 0 => gm
  | k + 1 => zc_u (zm_mk gm ch p r k) (ch (p * 16 + k) * 4 + r) true
theorem zm_mk_s (gm : Nat → Bool) (ch : Nat → Nat) (p r k : Nat) : zc_u (zm_mk gm ch p r k) (ch (p * 16 + k) * 4 + r) true = zm_mk gm ch p r (k + 1) := rfl
theorem zm_mk_iff (gm : Nat → Bool) (ch : Nat → Nat) (p r : Nat) : ∀ k j, zm_mk gm ch p r k j = true ↔ gm j = true ∨ ∃ i, i < k ∧ j = ch (p * 16 + i) * 4 + r := by
  intro k
  induction k with
  | zero => intro j; exact ⟨Or.inl, fun h => h.elim id (fun ⟨i, hi, _⟩ => absurd hi (by omega))⟩
  | succ k ih =>
    intro j
    rw [← zm_mk_s, zn_ut, ih j]
    constructor
    · rintro ((h | ⟨i, hi, h⟩) | h)
      · exact Or.inl h
      · exact Or.inr ⟨i, by omega, h⟩
      · exact Or.inr ⟨k, by omega, h⟩
    · rintro (h | ⟨i, hi, h⟩)
      · exact Or.inl (Or.inl h)
      · rcases Nat.lt_or_ge i k with h2 | h2
        · exact Or.inl (Or.inr ⟨i, h2, h⟩)
        · obtain rfl : i = k := by omega
          exact Or.inr h
section
variable {n sc lm sv bg rl : Nat} {gp gi gx gq gf go ix ic st ch en to sf : Nat → Nat} {gv gr ga un rp dc sr sa op ol ov : Nat → Int32} {gs gm yp yup kn fl : Nat → Bool}
theorem zy_clamp {post : Int32 → Prop} {v : Int32} {lo hi : Nat} (h : lo ≤ hi) (hh : hi < 2 ^ 31) (hp : post (nI (zf_cl v lo hi))) : wpY_clamp post (nI n, nI sc, nI lm, nI sv, nI bg, nI rl, zc_N gp, zc_N gi, zc_N gx, gv, zc_E gq, zc_E gf, gr, ga, zc_N go, zc_B gs, zc_B gm, zc_B yp, zc_B yup, zc_N ix, zc_N ic, zc_N st, un, rp, dc, zc_N ch, zc_N en, zc_B kn, zc_B fl, zc_N to, zc_E sf, sr, sa, op, ol, ov) v (nI lo) (nI hi) := zf_cl_wp h hh hp
theorem zy_put_l {post : Int32 → SY → Prop} {t : Nat} {z w : Int32} {m : Nat} (hsc : sc ≤ 12) : ∀ d x, x + d = sc → (zf_ff (fun s => !fl s) d x = sc → post (-4) (nI n, nI sc, nI lm, nI sv, nI bg, nI rl, zc_N gp, zc_N gi, zc_N gx, gv, zc_E gq, zc_E gf, gr, ga, zc_N go, zc_B gs, zc_B gm, zc_B yp, zc_B yup, zc_N ix, zc_N ic, zc_N st, un, rp, dc, zc_N ch, zc_N en, zc_B kn, zc_B fl, zc_N to, zc_E sf, sr, sa, op, ol, ov)) → (∀ s, s = zf_ff (fun s => !fl s) d x → s < sc → post (nI s) (nI n, nI sc, nI lm, nI sv, nI bg, nI rl, zc_N gp, zc_N gi, zc_N gx, gv, zc_E gq, zc_E gf, gr, ga, zc_N go, zc_B gs, zc_B gm, zc_B yp, zc_B yup, zc_N ix, zc_N ic, zc_N st, un, rp, dc, zc_N ch, zc_N en, zc_B kn, zc_B (zc_u fl s true), zc_N (zc_u to s t), zc_E (zc_u sf s m), (upd sr s z), (upd sa s w), op, ol, ov)) → wY_put_3 post (nI t) (zc_e m) z w (nI n) (nI sc) (nI lm) (nI sv) (nI bg) (nI rl) (zc_N gp) (zc_N gi) (zc_N gx) gv (zc_E gq) (zc_E gf) gr ga (zc_N go) (zc_B gs) (zc_B gm) (zc_B yp) (zc_B yup) (zc_N ix) (zc_N ic) (zc_N st) un rp dc (zc_N ch) (zc_N en) (zc_B kn) (zc_B fl) (zc_N to) (zc_E sf) sr sa op ol ov (d + 1) (nI x) := by
  intro d
  induction d with
  | zero =>
    intro x h h1 h2
    obtain rfl : x = sc := by omega
    exact br_t (nI_le (Nat.le_refl _) (by omega)) (h1 rfl)
  | succ d ih =>
    intro x h h1 h2
    cases hq : fl x with
    | false =>
      have e : zf_ff (fun s => !fl s) (d + 1) x = x := by rw [zf_ff_s, if_pos (by (try dsimp only); rw [hq]; rfl)]
      rw [wY_put_3]
      simp (disch := omega) only [zn_k4, zn_k8, zn_k16, zn_k32, zn_m16, zn_a64, zn_a128, nI_add, nI_1, nI_clamp, vp_in_nI, true_and, and_true, forall_eq, zn_rN, zn_rB, zn_rO, zn_rE, zn_vb0, zn_vb1, zn_b1, zn_b0, zn_d1, zn_d0, zn_e1, zn_e0, zn_wN, zn_wB1, zn_wB0, zn_wO, zn_wOd, zn_wO0, zn_wE, zn_wEe, zn_wE0, zn_leT, zn_leF, zn_ltT, zn_ltF, zn_eqF, zn_eqT, zn_lt0, zn_0le, zn_d2a, zn_d2b, zn_e1a, zn_e1b, zn_10, zn_00, zn_sh4, zn_an15, true_imp_iff, false_imp_iff, imp_true_iff, not_true_eq_false, not_false_eq_true, zn_gT4, zn_gF4, zn_gT8, zn_gF8, zn_gT12, zn_gF12, zn_gT48, zn_gF48, zn_gT124, zn_gF124, zn_gT128, zn_gF128, zn_gT560, zn_gF560, zn_lT7, zn_lF7, zn_lT120, zn_lF120, zn_qT7, zn_qF7, zn_qT120, zn_qF120, zn_qT0, zn_qF0, zn_qT1, zn_qF1, zn_hT0, zn_hF0, zn_hT7, zn_hF7, zn_sb, pk_us, zn_us, hq]
      exact h2 x e.symm (by omega)
    | true =>
      have e : zf_ff (fun s => !fl s) (d + 1) x = zf_ff (fun s => !fl s) d (x + 1) := by rw [zf_ff_s, if_neg (by (try dsimp only); rw [hq]; decide)]
      rw [e] at h1 h2
      rw [wY_put_3]
      simp (disch := omega) only [zn_k4, zn_k8, zn_k16, zn_k32, zn_m16, zn_a64, zn_a128, nI_add, nI_1, nI_clamp, vp_in_nI, true_and, and_true, forall_eq, zn_rN, zn_rB, zn_rO, zn_rE, zn_vb0, zn_vb1, zn_b1, zn_b0, zn_d1, zn_d0, zn_e1, zn_e0, zn_wN, zn_wB1, zn_wB0, zn_wO, zn_wOd, zn_wO0, zn_wE, zn_wEe, zn_wE0, zn_leT, zn_leF, zn_ltT, zn_ltF, zn_eqF, zn_eqT, zn_lt0, zn_0le, zn_d2a, zn_d2b, zn_e1a, zn_e1b, zn_10, zn_00, zn_sh4, zn_an15, true_imp_iff, false_imp_iff, imp_true_iff, not_true_eq_false, not_false_eq_true, zn_gT4, zn_gF4, zn_gT8, zn_gF8, zn_gT12, zn_gF12, zn_gT48, zn_gF48, zn_gT124, zn_gF124, zn_gT128, zn_gF128, zn_gT560, zn_gF560, zn_lT7, zn_lF7, zn_lT120, zn_lF120, zn_qT7, zn_qF7, zn_qT120, zn_qF120, zn_qT0, zn_qF0, zn_qT1, zn_qF1, zn_hT0, zn_hF0, zn_hT7, zn_hF7, zn_sb, pk_us, zn_us, hq]
      exact ih (x + 1) (by omega) h1 h2
theorem zy_put {post : Int32 → SY → Prop} {t : Nat} {z w : Int32} {m : Nat} (hsc : sc ≤ 12) (h1 : zf_ff (fun s => !fl s) sc 0 = sc → post (-4) (nI n, nI sc, nI lm, nI sv, nI bg, nI rl, zc_N gp, zc_N gi, zc_N gx, gv, zc_E gq, zc_E gf, gr, ga, zc_N go, zc_B gs, zc_B gm, zc_B yp, zc_B yup, zc_N ix, zc_N ic, zc_N st, un, rp, dc, zc_N ch, zc_N en, zc_B kn, zc_B fl, zc_N to, zc_E sf, sr, sa, op, ol, ov)) (h2 : ∀ s, s = zf_ff (fun s => !fl s) sc 0 → s < sc → post (nI s) (nI n, nI sc, nI lm, nI sv, nI bg, nI rl, zc_N gp, zc_N gi, zc_N gx, gv, zc_E gq, zc_E gf, gr, ga, zc_N go, zc_B gs, zc_B gm, zc_B yp, zc_B yup, zc_N ix, zc_N ic, zc_N st, un, rp, dc, zc_N ch, zc_N en, zc_B kn, zc_B (zc_u fl s true), zc_N (zc_u to s t), zc_E (zc_u sf s m), (upd sr s z), (upd sa s w), op, ol, ov)) : wpY_put post (nI n, nI sc, nI lm, nI sv, nI bg, nI rl, zc_N gp, zc_N gi, zc_N gx, gv, zc_E gq, zc_E gf, gr, ga, zc_N go, zc_B gs, zc_B gm, zc_B yp, zc_B yup, zc_N ix, zc_N ic, zc_N st, un, rp, dc, zc_N ch, zc_N en, zc_B kn, zc_B fl, zc_N to, zc_E sf, sr, sa, op, ol, ov) (nI t) (zc_e m) z w := ⟨sc + 1, zy_put_l hsc sc 0 (by omega) h1 h2⟩
theorem zy_saves_l {post : Int32 → Prop} {p : Nat} (hp4 : p < 4) (hm : ix p ≤ 12) (hch : ∀ j, ch j < 124) : ∀ d i c, c ≤ i → i + d = ix p + 1 → post (nI (c + zf_cnt (fun j => gs (ch (p * 16 + j))) d i)) → wY_savesOf_4 post (nI p) (nI n) (nI sc) (nI lm) (nI sv) (nI bg) (nI rl) (zc_N gp) (zc_N gi) (zc_N gx) gv (zc_E gq) (zc_E gf) gr ga (zc_N go) (zc_B gs) (zc_B gm) (zc_B yp) (zc_B yup) (zc_N ix) (zc_N ic) (zc_N st) un rp dc (zc_N ch) (zc_N en) (zc_B kn) (zc_B fl) (zc_N to) (zc_E sf) sr sa op ol ov (d + 1) (nI c) (nI i) := by
  intro d
  induction d with
  | zero =>
    intro i c hc h hp
    rw [wY_savesOf_4]
    simp (disch := omega) only [zn_k4, zn_k8, zn_k16, zn_k32, zn_m16, zn_a64, zn_a128, nI_add, nI_1, nI_clamp, vp_in_nI, true_and, and_true, forall_eq, zn_rN, zn_rB, zn_rO, zn_rE, zn_vb0, zn_vb1, zn_b1, zn_b0, zn_d1, zn_d0, zn_e1, zn_e0, zn_wN, zn_wB1, zn_wB0, zn_wO, zn_wOd, zn_wO0, zn_wE, zn_wEe, zn_wE0, zn_leT, zn_leF, zn_ltT, zn_ltF, zn_eqF, zn_eqT, zn_lt0, zn_0le, zn_d2a, zn_d2b, zn_e1a, zn_e1b, zn_10, zn_00, zn_sh4, zn_an15, true_imp_iff, false_imp_iff, imp_true_iff, not_true_eq_false, not_false_eq_true, zn_gT4, zn_gF4, zn_gT8, zn_gF8, zn_gT12, zn_gF12, zn_gT48, zn_gF48, zn_gT124, zn_gF124, zn_gT128, zn_gF128, zn_gT560, zn_gF560, zn_lT7, zn_lF7, zn_lT120, zn_lF120, zn_qT7, zn_qF7, zn_qT120, zn_qF120, zn_qT0, zn_qF0, zn_qT1, zn_qF1, zn_hT0, zn_hF0, zn_hT7, zn_hF7, zn_sb, pk_us, zn_us]
    exact hp
  | succ d ih =>
    intro i c hc h hp
    rw [zf_cnt_s] at hp
    have hb := hch (p * 16 + i)
    cases hq : gs (ch (p * 16 + i)) with
    | false =>
      rw [if_neg (by rw [hq]; decide), Nat.zero_add] at hp
      rw [wY_savesOf_4]
      simp (disch := omega) only [zn_k4, zn_k8, zn_k16, zn_k32, zn_m16, zn_a64, zn_a128, nI_add, nI_1, nI_clamp, vp_in_nI, true_and, and_true, forall_eq, zn_rN, zn_rB, zn_rO, zn_rE, zn_vb0, zn_vb1, zn_b1, zn_b0, zn_d1, zn_d0, zn_e1, zn_e0, zn_wN, zn_wB1, zn_wB0, zn_wO, zn_wOd, zn_wO0, zn_wE, zn_wEe, zn_wE0, zn_leT, zn_leF, zn_ltT, zn_ltF, zn_eqF, zn_eqT, zn_lt0, zn_0le, zn_d2a, zn_d2b, zn_e1a, zn_e1b, zn_10, zn_00, zn_sh4, zn_an15, true_imp_iff, false_imp_iff, imp_true_iff, not_true_eq_false, not_false_eq_true, zn_gT4, zn_gF4, zn_gT8, zn_gF8, zn_gT12, zn_gF12, zn_gT48, zn_gF48, zn_gT124, zn_gF124, zn_gT128, zn_gF128, zn_gT560, zn_gF560, zn_lT7, zn_lF7, zn_lT120, zn_lF120, zn_qT7, zn_qF7, zn_qT120, zn_qF120, zn_qT0, zn_qF0, zn_qT1, zn_qF1, zn_hT0, zn_hF0, zn_hT7, zn_hF7, zn_sb, pk_us, zn_us, hq]
      exact ih (i + 1) c (by omega) (by omega) hp
    | true =>
      rw [if_pos hq, ← Nat.add_assoc] at hp
      rw [wY_savesOf_4]
      simp (disch := omega) only [zn_k4, zn_k8, zn_k16, zn_k32, zn_m16, zn_a64, zn_a128, nI_add, nI_1, nI_clamp, vp_in_nI, true_and, and_true, forall_eq, zn_rN, zn_rB, zn_rO, zn_rE, zn_vb0, zn_vb1, zn_b1, zn_b0, zn_d1, zn_d0, zn_e1, zn_e0, zn_wN, zn_wB1, zn_wB0, zn_wO, zn_wOd, zn_wO0, zn_wE, zn_wEe, zn_wE0, zn_leT, zn_leF, zn_ltT, zn_ltF, zn_eqF, zn_eqT, zn_lt0, zn_0le, zn_d2a, zn_d2b, zn_e1a, zn_e1b, zn_10, zn_00, zn_sh4, zn_an15, true_imp_iff, false_imp_iff, imp_true_iff, not_true_eq_false, not_false_eq_true, zn_gT4, zn_gF4, zn_gT8, zn_gF8, zn_gT12, zn_gF12, zn_gT48, zn_gF48, zn_gT124, zn_gF124, zn_gT128, zn_gF128, zn_gT560, zn_gF560, zn_lT7, zn_lF7, zn_lT120, zn_lF120, zn_qT7, zn_qF7, zn_qT120, zn_qF120, zn_qT0, zn_qF0, zn_qT1, zn_qF1, zn_hT0, zn_hF0, zn_hT7, zn_hF7, zn_sb, pk_us, zn_us, hq]
      exact ih (i + 1) (c + 1) (by omega) (by omega) hp
theorem zy_saves {post : Int32 → Prop} {p : Nat} (hp4 : p < 4) (hix : ∀ j, ix j ≤ 12) (hch : ∀ j, ch j < 124) (hp : post (nI (zf_cnt (fun j => gs (ch (p * 16 + j))) (ix p) 1))) : wpY_savesOf post (nI n, nI sc, nI lm, nI sv, nI bg, nI rl, zc_N gp, zc_N gi, zc_N gx, gv, zc_E gq, zc_E gf, gr, ga, zc_N go, zc_B gs, zc_B gm, zc_B yp, zc_B yup, zc_N ix, zc_N ic, zc_N st, un, rp, dc, zc_N ch, zc_N en, zc_B kn, zc_B fl, zc_N to, zc_E sf, sr, sa, op, ol, ov) (nI p) := ⟨ix p + 1, zy_saves_l hp4 (hix p) hch (ix p) 1 0 (by omega) (by omega) (by rw [Nat.zero_add]; exact hp)⟩
theorem zy_held_l {post : Int32 → Prop} {p : Nat} (hp4 : p < 4) (hm : ix p ≤ 12) (hch : ∀ j, ch j < 124) (hgo : ∀ j, go j ≤ 2) : ∀ d i c, c ≤ i → i + d = ix p + 1 → post (nI (c + zf_cnt (fun j => decide (go (ch (p * 16 + j)) = 1)) d i)) → wY_process_127 post (nI p) (nI n) (nI sc) (nI lm) (nI sv) (nI bg) (nI rl) (zc_N gp) (zc_N gi) (zc_N gx) gv (zc_E gq) (zc_E gf) gr ga (zc_N go) (zc_B gs) (zc_B gm) (zc_B yp) (zc_B yup) (zc_N ix) (zc_N ic) (zc_N st) un rp dc (zc_N ch) (zc_N en) (zc_B kn) (zc_B fl) (zc_N to) (zc_E sf) sr sa op ol ov (d + 1) (nI c) (nI i) := by
  intro d
  induction d with
  | zero =>
    intro i c hc h hp
    rw [wY_process_127]
    simp (disch := omega) only [zn_k4, zn_k8, zn_k16, zn_k32, zn_m16, zn_a64, zn_a128, nI_add, nI_1, nI_clamp, vp_in_nI, true_and, and_true, forall_eq, zn_rN, zn_rB, zn_rO, zn_rE, zn_vb0, zn_vb1, zn_b1, zn_b0, zn_d1, zn_d0, zn_e1, zn_e0, zn_wN, zn_wB1, zn_wB0, zn_wO, zn_wOd, zn_wO0, zn_wE, zn_wEe, zn_wE0, zn_leT, zn_leF, zn_ltT, zn_ltF, zn_eqF, zn_eqT, zn_lt0, zn_0le, zn_d2a, zn_d2b, zn_e1a, zn_e1b, zn_10, zn_00, zn_sh4, zn_an15, true_imp_iff, false_imp_iff, imp_true_iff, not_true_eq_false, not_false_eq_true, zn_gT4, zn_gF4, zn_gT8, zn_gF8, zn_gT12, zn_gF12, zn_gT48, zn_gF48, zn_gT124, zn_gF124, zn_gT128, zn_gF128, zn_gT560, zn_gF560, zn_lT7, zn_lF7, zn_lT120, zn_lF120, zn_qT7, zn_qF7, zn_qT120, zn_qF120, zn_qT0, zn_qF0, zn_qT1, zn_qF1, zn_hT0, zn_hF0, zn_hT7, zn_hF7, zn_sb, pk_us, zn_us]
    exact hp
  | succ d ih =>
    intro i c hc h hp
    rw [zf_cnt_s] at hp
    have hb := hch (p * 16 + i)
    have ho := hgo (ch (p * 16 + i))
    by_cases hq : go (ch (p * 16 + i)) = 1
    · rw [if_pos (decide_eq_true hq), ← Nat.add_assoc] at hp
      rw [wY_process_127]
      simp (disch := omega) only [zn_k4, zn_k8, zn_k16, zn_k32, zn_m16, zn_a64, zn_a128, nI_add, nI_1, nI_clamp, vp_in_nI, true_and, and_true, forall_eq, zn_rN, zn_rB, zn_rO, zn_rE, zn_vb0, zn_vb1, zn_b1, zn_b0, zn_d1, zn_d0, zn_e1, zn_e0, zn_wN, zn_wB1, zn_wB0, zn_wO, zn_wOd, zn_wO0, zn_wE, zn_wEe, zn_wE0, zn_leT, zn_leF, zn_ltT, zn_ltF, zn_eqF, zn_eqT, zn_lt0, zn_0le, zn_d2a, zn_d2b, zn_e1a, zn_e1b, zn_10, zn_00, zn_sh4, zn_an15, true_imp_iff, false_imp_iff, imp_true_iff, not_true_eq_false, not_false_eq_true, zn_gT4, zn_gF4, zn_gT8, zn_gF8, zn_gT12, zn_gF12, zn_gT48, zn_gF48, zn_gT124, zn_gF124, zn_gT128, zn_gF128, zn_gT560, zn_gF560, zn_lT7, zn_lF7, zn_lT120, zn_lF120, zn_qT7, zn_qF7, zn_qT120, zn_qF120, zn_qT0, zn_qF0, zn_qT1, zn_qF1, zn_hT0, zn_hF0, zn_hT7, zn_hF7, zn_sb, pk_us, zn_us]
      exact ih (i + 1) (c + 1) (by omega) (by omega) hp
    · rw [if_neg (by rw [decide_eq_true_eq]; exact hq), Nat.zero_add] at hp
      rw [wY_process_127]
      simp (disch := omega) only [zn_k4, zn_k8, zn_k16, zn_k32, zn_m16, zn_a64, zn_a128, nI_add, nI_1, nI_clamp, vp_in_nI, true_and, and_true, forall_eq, zn_rN, zn_rB, zn_rO, zn_rE, zn_vb0, zn_vb1, zn_b1, zn_b0, zn_d1, zn_d0, zn_e1, zn_e0, zn_wN, zn_wB1, zn_wB0, zn_wO, zn_wOd, zn_wO0, zn_wE, zn_wEe, zn_wE0, zn_leT, zn_leF, zn_ltT, zn_ltF, zn_eqF, zn_eqT, zn_lt0, zn_0le, zn_d2a, zn_d2b, zn_e1a, zn_e1b, zn_10, zn_00, zn_sh4, zn_an15, true_imp_iff, false_imp_iff, imp_true_iff, not_true_eq_false, not_false_eq_true, zn_gT4, zn_gF4, zn_gT8, zn_gF8, zn_gT12, zn_gF12, zn_gT48, zn_gF48, zn_gT124, zn_gF124, zn_gT128, zn_gF128, zn_gT560, zn_gF560, zn_lT7, zn_lF7, zn_lT120, zn_lF120, zn_qT7, zn_qF7, zn_qT120, zn_qF120, zn_qT0, zn_qF0, zn_qT1, zn_qF1, zn_hT0, zn_hF0, zn_hT7, zn_hF7, zn_sb, pk_us, zn_us]
      exact ih (i + 1) c (by omega) (by omega) hp
theorem zy_seen_l {post : Int32 → Prop} {r p : Nat} (hr : r < 4) (hp4 : p < 4) (hm : ix p ≤ 12) (hch : ∀ j, ch j < 124) : ∀ d i c, c ≤ i → i + d = ix p + 1 → post (nI (c + zf_cnt (fun j => gm (ch (p * 16 + j) * 4 + r)) d i)) → wY_seen_23 post (nI r) (nI p) (nI n) (nI sc) (nI lm) (nI sv) (nI bg) (nI rl) (zc_N gp) (zc_N gi) (zc_N gx) gv (zc_E gq) (zc_E gf) gr ga (zc_N go) (zc_B gs) (zc_B gm) (zc_B yp) (zc_B yup) (zc_N ix) (zc_N ic) (zc_N st) un rp dc (zc_N ch) (zc_N en) (zc_B kn) (zc_B fl) (zc_N to) (zc_E sf) sr sa op ol ov (d + 1) (nI c) (nI i) := by
  intro d
  induction d with
  | zero =>
    intro i c hc h hp
    rw [wY_seen_23]
    simp (disch := omega) only [zn_k4, zn_k8, zn_k16, zn_k32, zn_m16, zn_a64, zn_a128, nI_add, nI_1, nI_clamp, vp_in_nI, true_and, and_true, forall_eq, zn_rN, zn_rB, zn_rO, zn_rE, zn_vb0, zn_vb1, zn_b1, zn_b0, zn_d1, zn_d0, zn_e1, zn_e0, zn_wN, zn_wB1, zn_wB0, zn_wO, zn_wOd, zn_wO0, zn_wE, zn_wEe, zn_wE0, zn_leT, zn_leF, zn_ltT, zn_ltF, zn_eqF, zn_eqT, zn_lt0, zn_0le, zn_d2a, zn_d2b, zn_e1a, zn_e1b, zn_10, zn_00, zn_sh4, zn_an15, true_imp_iff, false_imp_iff, imp_true_iff, not_true_eq_false, not_false_eq_true, zn_gT4, zn_gF4, zn_gT8, zn_gF8, zn_gT12, zn_gF12, zn_gT48, zn_gF48, zn_gT124, zn_gF124, zn_gT128, zn_gF128, zn_gT560, zn_gF560, zn_lT7, zn_lF7, zn_lT120, zn_lF120, zn_qT7, zn_qF7, zn_qT120, zn_qF120, zn_qT0, zn_qF0, zn_qT1, zn_qF1, zn_hT0, zn_hF0, zn_hT7, zn_hF7, zn_sb, pk_us, zn_us]
    exact hp
  | succ d ih =>
    intro i c hc h hp
    rw [zf_cnt_s] at hp
    have hb := hch (p * 16 + i)
    cases hq : gm (ch (p * 16 + i) * 4 + r) with
    | false =>
      rw [if_neg (by rw [hq]; decide), Nat.zero_add] at hp
      rw [wY_seen_23]
      simp (disch := omega) only [zn_k4, zn_k8, zn_k16, zn_k32, zn_m16, zn_a64, zn_a128, nI_add, nI_1, nI_clamp, vp_in_nI, true_and, and_true, forall_eq, zn_rN, zn_rB, zn_rO, zn_rE, zn_vb0, zn_vb1, zn_b1, zn_b0, zn_d1, zn_d0, zn_e1, zn_e0, zn_wN, zn_wB1, zn_wB0, zn_wO, zn_wOd, zn_wO0, zn_wE, zn_wEe, zn_wE0, zn_leT, zn_leF, zn_ltT, zn_ltF, zn_eqF, zn_eqT, zn_lt0, zn_0le, zn_d2a, zn_d2b, zn_e1a, zn_e1b, zn_10, zn_00, zn_sh4, zn_an15, true_imp_iff, false_imp_iff, imp_true_iff, not_true_eq_false, not_false_eq_true, zn_gT4, zn_gF4, zn_gT8, zn_gF8, zn_gT12, zn_gF12, zn_gT48, zn_gF48, zn_gT124, zn_gF124, zn_gT128, zn_gF128, zn_gT560, zn_gF560, zn_lT7, zn_lF7, zn_lT120, zn_lF120, zn_qT7, zn_qF7, zn_qT120, zn_qF120, zn_qT0, zn_qF0, zn_qT1, zn_qF1, zn_hT0, zn_hF0, zn_hT7, zn_hF7, zn_sb, pk_us, zn_us, hq]
      exact ih (i + 1) c (by omega) (by omega) hp
    | true =>
      rw [if_pos hq, ← Nat.add_assoc] at hp
      rw [wY_seen_23]
      simp (disch := omega) only [zn_k4, zn_k8, zn_k16, zn_k32, zn_m16, zn_a64, zn_a128, nI_add, nI_1, nI_clamp, vp_in_nI, true_and, and_true, forall_eq, zn_rN, zn_rB, zn_rO, zn_rE, zn_vb0, zn_vb1, zn_b1, zn_b0, zn_d1, zn_d0, zn_e1, zn_e0, zn_wN, zn_wB1, zn_wB0, zn_wO, zn_wOd, zn_wO0, zn_wE, zn_wEe, zn_wE0, zn_leT, zn_leF, zn_ltT, zn_ltF, zn_eqF, zn_eqT, zn_lt0, zn_0le, zn_d2a, zn_d2b, zn_e1a, zn_e1b, zn_10, zn_00, zn_sh4, zn_an15, true_imp_iff, false_imp_iff, imp_true_iff, not_true_eq_false, not_false_eq_true, zn_gT4, zn_gF4, zn_gT8, zn_gF8, zn_gT12, zn_gF12, zn_gT48, zn_gF48, zn_gT124, zn_gF124, zn_gT128, zn_gF128, zn_gT560, zn_gF560, zn_lT7, zn_lF7, zn_lT120, zn_lF120, zn_qT7, zn_qF7, zn_qT120, zn_qF120, zn_qT0, zn_qF0, zn_qT1, zn_qF1, zn_hT0, zn_hF0, zn_hT7, zn_hF7, zn_sb, pk_us, zn_us, hq]
      exact ih (i + 1) (c + 1) (by omega) (by omega) hp
theorem zy_seen {post : Int32 → Prop} {r p : Nat} (hr : r < n) (hp4 : p < n) (hn : n ≤ 4) (hix : ∀ j, ix j ≤ 12) (hch : ∀ j, ch j < 124) (hp : post (nI (zf_cnt (fun j => gm (ch (p * 16 + j) * 4 + r)) (ix p + 1) 0))) : wpY_seen post (nI n, nI sc, nI lm, nI sv, nI bg, nI rl, zc_N gp, zc_N gi, zc_N gx, gv, zc_E gq, zc_E gf, gr, ga, zc_N go, zc_B gs, zc_B gm, zc_B yp, zc_B yup, zc_N ix, zc_N ic, zc_N st, un, rp, dc, zc_N ch, zc_N en, zc_B kn, zc_B fl, zc_N to, zc_E sf, sr, sa, op, ol, ov) (nI r) (nI p) := by
  unfold wpY_seen wpY_isProcess
  simp (disch := omega) only [zn_k4, zn_k8, zn_k16, zn_k32, zn_m16, zn_a64, zn_a128, nI_add, nI_1, nI_clamp, vp_in_nI, true_and, and_true, forall_eq, zn_rN, zn_rB, zn_rO, zn_rE, zn_vb0, zn_vb1, zn_b1, zn_b0, zn_d1, zn_d0, zn_e1, zn_e0, zn_wN, zn_wB1, zn_wB0, zn_wO, zn_wOd, zn_wO0, zn_wE, zn_wEe, zn_wE0, zn_leT, zn_leF, zn_ltT, zn_ltF, zn_eqF, zn_eqT, zn_lt0, zn_0le, zn_d2a, zn_d2b, zn_e1a, zn_e1b, zn_10, zn_00, zn_sh4, zn_an15, true_imp_iff, false_imp_iff, imp_true_iff, not_true_eq_false, not_false_eq_true, zn_gT4, zn_gF4, zn_gT8, zn_gF8, zn_gT12, zn_gF12, zn_gT48, zn_gF48, zn_gT124, zn_gF124, zn_gT128, zn_gF128, zn_gT560, zn_gF560, zn_lT7, zn_lF7, zn_lT120, zn_lF120, zn_qT7, zn_qF7, zn_qT120, zn_qF120, zn_qT0, zn_qF0, zn_qT1, zn_qF1, zn_hT0, zn_hF0, zn_hT7, zn_hF7, zn_sb, pk_us, zn_us]
  exact ⟨ix p + 2, zy_seen_l (by omega) (by omega) (hix p) hch (ix p + 1) 0 0 (by omega) (by omega) (by rw [Nat.zero_add]; exact hp)⟩
theorem zy_base_l {post : Int32 → Prop} {p : Nat} (hp4 : p < 4) (hm : ix p ≤ 12) (hch : ∀ j, ch j < 124) (hp : post (nI (zf_last (fun j => gs (ch (p * 16 + j))) (ix p)))) : ∀ d i, i + 1 + d = ix p + 1 → wY_savedBase_4 post (nI p) (nI n) (nI sc) (nI lm) (nI sv) (nI bg) (nI rl) (zc_N gp) (zc_N gi) (zc_N gx) gv (zc_E gq) (zc_E gf) gr ga (zc_N go) (zc_B gs) (zc_B gm) (zc_B yp) (zc_B yup) (zc_N ix) (zc_N ic) (zc_N st) un rp dc (zc_N ch) (zc_N en) (zc_B kn) (zc_B fl) (zc_N to) (zc_E sf) sr sa op ol ov (d + 1) (nI (zf_last (fun j => gs (ch (p * 16 + j))) i)) (nI (i + 1)) := by
  intro d
  induction d with
  | zero =>
    intro i h
    obtain rfl : i = ix p := by omega
    rw [wY_savedBase_4]
    simp (disch := omega) only [zn_k4, zn_k8, zn_k16, zn_k32, zn_m16, zn_a64, zn_a128, nI_add, nI_1, nI_clamp, vp_in_nI, true_and, and_true, forall_eq, zn_rN, zn_rB, zn_rO, zn_rE, zn_vb0, zn_vb1, zn_b1, zn_b0, zn_d1, zn_d0, zn_e1, zn_e0, zn_wN, zn_wB1, zn_wB0, zn_wO, zn_wOd, zn_wO0, zn_wE, zn_wEe, zn_wE0, zn_leT, zn_leF, zn_ltT, zn_ltF, zn_eqF, zn_eqT, zn_lt0, zn_0le, zn_d2a, zn_d2b, zn_e1a, zn_e1b, zn_10, zn_00, zn_sh4, zn_an15, true_imp_iff, false_imp_iff, imp_true_iff, not_true_eq_false, not_false_eq_true, zn_gT4, zn_gF4, zn_gT8, zn_gF8, zn_gT12, zn_gF12, zn_gT48, zn_gF48, zn_gT124, zn_gF124, zn_gT128, zn_gF128, zn_gT560, zn_gF560, zn_lT7, zn_lF7, zn_lT120, zn_lF120, zn_qT7, zn_qF7, zn_qT120, zn_qF120, zn_qT0, zn_qF0, zn_qT1, zn_qF1, zn_hT0, zn_hF0, zn_hT7, zn_hF7, zn_sb, pk_us, zn_us]
    exact hp
  | succ d ih =>
    intro i h
    have hb := hch (p * 16 + (i + 1))
    have hi := ih (i + 1) (by omega)
    rw [zf_last_s] at hi
    cases hq : gs (ch (p * 16 + (i + 1))) with
    | false =>
      rw [if_neg (by rw [hq]; decide)] at hi
      rw [wY_savedBase_4]
      simp (disch := omega) only [zn_k4, zn_k8, zn_k16, zn_k32, zn_m16, zn_a64, zn_a128, nI_add, nI_1, nI_clamp, vp_in_nI, true_and, and_true, forall_eq, zn_rN, zn_rB, zn_rO, zn_rE, zn_vb0, zn_vb1, zn_b1, zn_b0, zn_d1, zn_d0, zn_e1, zn_e0, zn_wN, zn_wB1, zn_wB0, zn_wO, zn_wOd, zn_wO0, zn_wE, zn_wEe, zn_wE0, zn_leT, zn_leF, zn_ltT, zn_ltF, zn_eqF, zn_eqT, zn_lt0, zn_0le, zn_d2a, zn_d2b, zn_e1a, zn_e1b, zn_10, zn_00, zn_sh4, zn_an15, true_imp_iff, false_imp_iff, imp_true_iff, not_true_eq_false, not_false_eq_true, zn_gT4, zn_gF4, zn_gT8, zn_gF8, zn_gT12, zn_gF12, zn_gT48, zn_gF48, zn_gT124, zn_gF124, zn_gT128, zn_gF128, zn_gT560, zn_gF560, zn_lT7, zn_lF7, zn_lT120, zn_lF120, zn_qT7, zn_qF7, zn_qT120, zn_qF120, zn_qT0, zn_qF0, zn_qT1, zn_qF1, zn_hT0, zn_hF0, zn_hT7, zn_hF7, zn_sb, pk_us, zn_us, hq]
      exact hi
    | true =>
      rw [if_pos hq] at hi
      rw [wY_savedBase_4]
      simp (disch := omega) only [zn_k4, zn_k8, zn_k16, zn_k32, zn_m16, zn_a64, zn_a128, nI_add, nI_1, nI_clamp, vp_in_nI, true_and, and_true, forall_eq, zn_rN, zn_rB, zn_rO, zn_rE, zn_vb0, zn_vb1, zn_b1, zn_b0, zn_d1, zn_d0, zn_e1, zn_e0, zn_wN, zn_wB1, zn_wB0, zn_wO, zn_wOd, zn_wO0, zn_wE, zn_wEe, zn_wE0, zn_leT, zn_leF, zn_ltT, zn_ltF, zn_eqF, zn_eqT, zn_lt0, zn_0le, zn_d2a, zn_d2b, zn_e1a, zn_e1b, zn_10, zn_00, zn_sh4, zn_an15, true_imp_iff, false_imp_iff, imp_true_iff, not_true_eq_false, not_false_eq_true, zn_gT4, zn_gF4, zn_gT8, zn_gF8, zn_gT12, zn_gF12, zn_gT48, zn_gF48, zn_gT124, zn_gF124, zn_gT128, zn_gF128, zn_gT560, zn_gF560, zn_lT7, zn_lF7, zn_lT120, zn_lF120, zn_qT7, zn_qF7, zn_qT120, zn_qF120, zn_qT0, zn_qF0, zn_qT1, zn_qF1, zn_hT0, zn_hF0, zn_hT7, zn_hF7, zn_sb, pk_us, zn_us, hq]
      exact hi
theorem zy_base {post : Int32 → Prop} {p : Nat} (hp4 : p < 4) (hix : ∀ j, ix j ≤ 12) (hch : ∀ j, ch j < 124) (hp : post (nI (zf_last (fun j => gs (ch (p * 16 + j))) (ix p)))) : wpY_savedBase post (nI n, nI sc, nI lm, nI sv, nI bg, nI rl, zc_N gp, zc_N gi, zc_N gx, gv, zc_E gq, zc_E gf, gr, ga, zc_N go, zc_B gs, zc_B gm, zc_B yp, zc_B yup, zc_N ix, zc_N ic, zc_N st, un, rp, dc, zc_N ch, zc_N en, zc_B kn, zc_B fl, zc_N to, zc_E sf, sr, sa, op, ol, ov) (nI p) := by
  have hm := hix p
  have hb := hch (p * 16 + 0)
  have h1 : wY_savedBase_4 post (nI p) (nI n) (nI sc) (nI lm) (nI sv) (nI bg) (nI rl) (zc_N gp) (zc_N gi) (zc_N gx) gv (zc_E gq) (zc_E gf) gr ga (zc_N go) (zc_B gs) (zc_B gm) (zc_B yp) (zc_B yup) (zc_N ix) (zc_N ic) (zc_N st) un rp dc (zc_N ch) (zc_N en) (zc_B kn) (zc_B fl) (zc_N to) (zc_E sf) sr sa op ol ov (ix p + 1) (nI 0) (nI (0 + 1)) := zy_base_l hp4 hm hch hp (ix p) 0 (by omega)
  refine ⟨ix p + 2, ?_⟩
  show wY_savedBase_4 post (nI p) (nI n) (nI sc) (nI lm) (nI sv) (nI bg) (nI rl) (zc_N gp) (zc_N gi) (zc_N gx) gv (zc_E gq) (zc_E gf) gr ga (zc_N go) (zc_B gs) (zc_B gm) (zc_B yp) (zc_B yup) (zc_N ix) (zc_N ic) (zc_N st) un rp dc (zc_N ch) (zc_N en) (zc_B kn) (zc_B fl) (zc_N to) (zc_E sf) sr sa op ol ov (ix p + 1 + 1) (nI 0) (nI 0)
  cases hq : gs (ch (p * 16 + 0)) with
  | false =>
    rw [wY_savedBase_4]
    simp (disch := omega) only [zn_k4, zn_k8, zn_k16, zn_k32, zn_m16, zn_a64, zn_a128, nI_add, nI_1, nI_clamp, vp_in_nI, true_and, and_true, forall_eq, zn_rN, zn_rB, zn_rO, zn_rE, zn_vb0, zn_vb1, zn_b1, zn_b0, zn_d1, zn_d0, zn_e1, zn_e0, zn_wN, zn_wB1, zn_wB0, zn_wO, zn_wOd, zn_wO0, zn_wE, zn_wEe, zn_wE0, zn_leT, zn_leF, zn_ltT, zn_ltF, zn_eqF, zn_eqT, zn_lt0, zn_0le, zn_d2a, zn_d2b, zn_e1a, zn_e1b, zn_10, zn_00, zn_sh4, zn_an15, true_imp_iff, false_imp_iff, imp_true_iff, not_true_eq_false, not_false_eq_true, zn_gT4, zn_gF4, zn_gT8, zn_gF8, zn_gT12, zn_gF12, zn_gT48, zn_gF48, zn_gT124, zn_gF124, zn_gT128, zn_gF128, zn_gT560, zn_gF560, zn_lT7, zn_lF7, zn_lT120, zn_lF120, zn_qT7, zn_qF7, zn_qT120, zn_qF120, zn_qT0, zn_qF0, zn_qT1, zn_qF1, zn_hT0, zn_hF0, zn_hT7, zn_hF7, zn_sb, pk_us, zn_us, hq]
    exact h1
  | true =>
    rw [wY_savedBase_4]
    simp (disch := omega) only [zn_k4, zn_k8, zn_k16, zn_k32, zn_m16, zn_a64, zn_a128, nI_add, nI_1, nI_clamp, vp_in_nI, true_and, and_true, forall_eq, zn_rN, zn_rB, zn_rO, zn_rE, zn_vb0, zn_vb1, zn_b1, zn_b0, zn_d1, zn_d0, zn_e1, zn_e0, zn_wN, zn_wB1, zn_wB0, zn_wO, zn_wOd, zn_wO0, zn_wE, zn_wEe, zn_wE0, zn_leT, zn_leF, zn_ltT, zn_ltF, zn_eqF, zn_eqT, zn_lt0, zn_0le, zn_d2a, zn_d2b, zn_e1a, zn_e1b, zn_10, zn_00, zn_sh4, zn_an15, true_imp_iff, false_imp_iff, imp_true_iff, not_true_eq_false, not_false_eq_true, zn_gT4, zn_gF4, zn_gT8, zn_gF8, zn_gT12, zn_gF12, zn_gT48, zn_gF48, zn_gT124, zn_gF124, zn_gT128, zn_gF128, zn_gT560, zn_gF560, zn_lT7, zn_lF7, zn_lT120, zn_lF120, zn_qT7, zn_qF7, zn_qT120, zn_qF120, zn_qT0, zn_qF0, zn_qT1, zn_qF1, zn_hT0, zn_hF0, zn_hT7, zn_hF7, zn_sb, pk_us, zn_us, hq]
    exact h1
theorem zy_stab_l {post : SY → Prop} {p l : Nat} (hp4 : p < 4) (hl : l ≤ 12) (hch : ∀ j, ch j < 124) (hp : post (nI n, nI sc, nI lm, nI sv, nI bg, nI rl, zc_N gp, zc_N gi, zc_N gx, gv, zc_E gq, zc_E gf, gr, ga, zc_N go, zc_B gs, zc_B (zm_mk gm ch p p (l + 1)), zc_B yp, zc_B yup, zc_N ix, zc_N ic, zc_N st, un, rp, dc, zc_N ch, zc_N en, zc_B kn, zc_B fl, zc_N to, zc_E sf, sr, sa, op, ol, ov)) : ∀ d i, i + d = l + 1 → wY_stabilize_9 post (nI p) (nI l) (nI n) (nI sc) (nI lm) (nI sv) (nI bg) (nI rl) (d + 1) (nI i) (zc_N gp) (zc_N gi) (zc_N gx) gv (zc_E gq) (zc_E gf) gr ga (zc_N go) (zc_B gs) (zc_B (zm_mk gm ch p p i)) (zc_B yp) (zc_B yup) (zc_N ix) (zc_N ic) (zc_N st) un rp dc (zc_N ch) (zc_N en) (zc_B kn) (zc_B fl) (zc_N to) (zc_E sf) sr sa op ol ov := by
  intro d
  induction d with
  | zero =>
    intro i h
    obtain rfl : i = l + 1 := by omega
    exact br_t (nI_lt (by omega) (by omega)) hp
  | succ d ih =>
    intro i h
    have hb := hch (p * 16 + i)
    have hi := ih (i + 1) (by omega)
    rw [wY_stabilize_9]
    simp (disch := omega) only [zn_k4, zn_k8, zn_k16, zn_k32, zn_m16, zn_a64, zn_a128, nI_add, nI_1, nI_clamp, vp_in_nI, true_and, and_true, forall_eq, zn_rN, zn_rB, zn_rO, zn_rE, zn_vb0, zn_vb1, zn_b1, zn_b0, zn_d1, zn_d0, zn_e1, zn_e0, zn_wN, zn_wB1, zn_wB0, zn_wO, zn_wOd, zn_wO0, zn_wE, zn_wEe, zn_wE0, zn_leT, zn_leF, zn_ltT, zn_ltF, zn_eqF, zn_eqT, zn_lt0, zn_0le, zn_d2a, zn_d2b, zn_e1a, zn_e1b, zn_10, zn_00, zn_sh4, zn_an15, true_imp_iff, false_imp_iff, imp_true_iff, not_true_eq_false, not_false_eq_true, zn_gT4, zn_gF4, zn_gT8, zn_gF8, zn_gT12, zn_gF12, zn_gT48, zn_gF48, zn_gT124, zn_gF124, zn_gT128, zn_gF128, zn_gT560, zn_gF560, zn_lT7, zn_lF7, zn_lT120, zn_lF120, zn_qT7, zn_qF7, zn_qT120, zn_qF120, zn_qT0, zn_qF0, zn_qT1, zn_qF1, zn_hT0, zn_hF0, zn_hT7, zn_hF7, zn_sb, pk_us, zn_us, zm_mk_s]
    exact hi
theorem zy_stab {post : SY → Prop} {p l : Nat} (hp4 : p < 4) (hl : l ≤ 12) (hch : ∀ j, ch j < 124) (hp : post (nI n, nI sc, nI lm, nI sv, nI bg, nI rl, zc_N gp, zc_N gi, zc_N gx, gv, zc_E gq, zc_E gf, gr, ga, zc_N go, zc_B gs, zc_B (zm_mk gm ch p p (l + 1)), zc_B yp, zc_B yup, zc_N ix, zc_N ic, zc_N (zc_u st p l), un, rp, dc, zc_N ch, zc_N en, zc_B kn, zc_B fl, zc_N to, zc_E sf, sr, sa, op, ol, ov)) : wpY_stabilize post (nI n, nI sc, nI lm, nI sv, nI bg, nI rl, zc_N gp, zc_N gi, zc_N gx, gv, zc_E gq, zc_E gf, gr, ga, zc_N go, zc_B gs, zc_B gm, zc_B yp, zc_B yup, zc_N ix, zc_N ic, zc_N st, un, rp, dc, zc_N ch, zc_N en, zc_B kn, zc_B fl, zc_N to, zc_E sf, sr, sa, op, ol, ov) (nI p) (nI l) := by
  unfold wpY_stabilize
  simp (disch := omega) only [zn_k4, zn_k8, zn_k16, zn_k32, zn_m16, zn_a64, zn_a128, nI_add, nI_1, nI_clamp, vp_in_nI, true_and, and_true, forall_eq, zn_rN, zn_rB, zn_rO, zn_rE, zn_vb0, zn_vb1, zn_b1, zn_b0, zn_d1, zn_d0, zn_e1, zn_e0, zn_wN, zn_wB1, zn_wB0, zn_wO, zn_wOd, zn_wO0, zn_wE, zn_wEe, zn_wE0, zn_leT, zn_leF, zn_ltT, zn_ltF, zn_eqF, zn_eqT, zn_lt0, zn_0le, zn_d2a, zn_d2b, zn_e1a, zn_e1b, zn_10, zn_00, zn_sh4, zn_an15, true_imp_iff, false_imp_iff, imp_true_iff, not_true_eq_false, not_false_eq_true, zn_gT4, zn_gF4, zn_gT8, zn_gF8, zn_gT12, zn_gF12, zn_gT48, zn_gF48, zn_gT124, zn_gF124, zn_gT128, zn_gF128, zn_gT560, zn_gF560, zn_lT7, zn_lF7, zn_lT120, zn_lF120, zn_qT7, zn_qF7, zn_qT120, zn_qF120, zn_qT0, zn_qF0, zn_qT1, zn_qF1, zn_hT0, zn_hF0, zn_hT7, zn_hF7, zn_sb, pk_us, zn_us]
  exact ⟨l + 2, zy_stab_l hp4 hl hch hp (l + 1) 0 (by omega)⟩
theorem zy_note_l {post : Int32 → SY → Prop} {x r : Nat} {c : Int32} (hx : x < n) (hr : r < n) (hn : n ≤ 4) (hix : ∀ j, ix j ≤ 12) (hst : ∀ j, st j ≤ 12) (hch : ∀ j, ch j < 124) (hp : post (nI (zf_cnt (fun j => zm_mk gm ch x r (st x + 1) (ch (x * 16 + j) * 4 + r)) (ix x + 1) 0) - c) (nI n, nI sc, nI lm, nI sv, nI bg, nI rl, zc_N gp, zc_N gi, zc_N gx, gv, zc_E gq, zc_E gf, gr, ga, zc_N go, zc_B gs, zc_B (zm_mk gm ch x r (st x + 1)), zc_B yp, zc_B yup, zc_N ix, zc_N ic, zc_N st, un, rp, dc, zc_N ch, zc_N en, zc_B kn, zc_B fl, zc_N to, zc_E sf, sr, sa, op, ol, ov)) : ∀ d i, i + d = st x + 1 → wY_notifyStable_54 post (nI x) (nI r) c (nI n) (nI sc) (nI lm) (nI sv) (nI bg) (nI rl) (d + 1) (nI i) (zc_N gp) (zc_N gi) (zc_N gx) gv (zc_E gq) (zc_E gf) gr ga (zc_N go) (zc_B gs) (zc_B (zm_mk gm ch x r i)) (zc_B yp) (zc_B yup) (zc_N ix) (zc_N ic) (zc_N st) un rp dc (zc_N ch) (zc_N en) (zc_B kn) (zc_B fl) (zc_N to) (zc_E sf) sr sa op ol ov := by
  intro d
  induction d with
  | zero =>
    intro i h
    have hs := hst x
    obtain rfl : i = st x + 1 := by omega
    rw [wY_notifyStable_54]
    simp (disch := omega) only [zn_k4, zn_k8, zn_k16, zn_k32, zn_m16, zn_a64, zn_a128, nI_add, nI_1, nI_clamp, vp_in_nI, true_and, and_true, forall_eq, zn_rN, zn_rB, zn_rO, zn_rE, zn_vb0, zn_vb1, zn_b1, zn_b0, zn_d1, zn_d0, zn_e1, zn_e0, zn_wN, zn_wB1, zn_wB0, zn_wO, zn_wOd, zn_wO0, zn_wE, zn_wEe, zn_wE0, zn_leT, zn_leF, zn_ltT, zn_ltF, zn_eqF, zn_eqT, zn_lt0, zn_0le, zn_d2a, zn_d2b, zn_e1a, zn_e1b, zn_10, zn_00, zn_sh4, zn_an15, true_imp_iff, false_imp_iff, imp_true_iff, not_true_eq_false, not_false_eq_true, zn_gT4, zn_gF4, zn_gT8, zn_gF8, zn_gT12, zn_gF12, zn_gT48, zn_gF48, zn_gT124, zn_gF124, zn_gT128, zn_gF128, zn_gT560, zn_gF560, zn_lT7, zn_lF7, zn_lT120, zn_lF120, zn_qT7, zn_qF7, zn_qT120, zn_qF120, zn_qT0, zn_qF0, zn_qT1, zn_qF1, zn_hT0, zn_hF0, zn_hT7, zn_hF7, zn_sb, pk_us, zn_us]
    exact zy_seen hr hx hn hix hch hp
  | succ d ih =>
    intro i h
    have hs := hst x
    have hb := hch (x * 16 + i)
    have hi := ih (i + 1) (by omega)
    rw [wY_notifyStable_54]
    simp (disch := omega) only [zn_k4, zn_k8, zn_k16, zn_k32, zn_m16, zn_a64, zn_a128, nI_add, nI_1, nI_clamp, vp_in_nI, true_and, and_true, forall_eq, zn_rN, zn_rB, zn_rO, zn_rE, zn_vb0, zn_vb1, zn_b1, zn_b0, zn_d1, zn_d0, zn_e1, zn_e0, zn_wN, zn_wB1, zn_wB0, zn_wO, zn_wOd, zn_wO0, zn_wE, zn_wEe, zn_wE0, zn_leT, zn_leF, zn_ltT, zn_ltF, zn_eqF, zn_eqT, zn_lt0, zn_0le, zn_d2a, zn_d2b, zn_e1a, zn_e1b, zn_10, zn_00, zn_sh4, zn_an15, true_imp_iff, false_imp_iff, imp_true_iff, not_true_eq_false, not_false_eq_true, zn_gT4, zn_gF4, zn_gT8, zn_gF8, zn_gT12, zn_gF12, zn_gT48, zn_gF48, zn_gT124, zn_gF124, zn_gT128, zn_gF128, zn_gT560, zn_gF560, zn_lT7, zn_lF7, zn_lT120, zn_lF120, zn_qT7, zn_qF7, zn_qT120, zn_qF120, zn_qT0, zn_qF0, zn_qT1, zn_qF1, zn_hT0, zn_hF0, zn_hT7, zn_hF7, zn_sb, pk_us, zn_us, zm_mk_s]
    exact hi
theorem zy_recEnd {post : SY → Prop} {p : Nat} (hp4 : p < 4) (hic : ic p < 7) (hp : post (nI n, nI sc, nI lm, nI sv, nI bg, nI rl, zc_N gp, zc_N gi, zc_N gx, gv, zc_E gq, zc_E gf, gr, ga, zc_N go, zc_B gs, zc_B gm, zc_B yp, zc_B yup, zc_N ix, zc_N (zc_u ic p (ic p + 1)), zc_N st, un, rp, dc, zc_N ch, zc_N (zc_u en (p * 8 + ic p) (ix p)), zc_B (zc_u kn (p * 32 + p * 8 + ic p) true), zc_B fl, zc_N to, zc_E sf, sr, sa, op, ol, ov)) : wpY_recordEnd post (nI n, nI sc, nI lm, nI sv, nI bg, nI rl, zc_N gp, zc_N gi, zc_N gx, gv, zc_E gq, zc_E gf, gr, ga, zc_N go, zc_B gs, zc_B gm, zc_B yp, zc_B yup, zc_N ix, zc_N ic, zc_N st, un, rp, dc, zc_N ch, zc_N en, zc_B kn, zc_B fl, zc_N to, zc_E sf, sr, sa, op, ol, ov) (nI p) := by
  unfold wpY_recordEnd
  simp (disch := omega) only [zn_k4, zn_k8, zn_k16, zn_k32, zn_m16, zn_a64, zn_a128, nI_add, nI_1, nI_clamp, vp_in_nI, true_and, and_true, forall_eq, zn_rN, zn_rB, zn_rO, zn_rE, zn_vb0, zn_vb1, zn_b1, zn_b0, zn_d1, zn_d0, zn_e1, zn_e0, zn_wN, zn_wB1, zn_wB0, zn_wO, zn_wOd, zn_wO0, zn_wE, zn_wEe, zn_wE0, zn_leT, zn_leF, zn_ltT, zn_ltF, zn_eqF, zn_eqT, zn_lt0, zn_0le, zn_d2a, zn_d2b, zn_e1a, zn_e1b, zn_10, zn_00, zn_sh4, zn_an15, true_imp_iff, false_imp_iff, imp_true_iff, not_true_eq_false, not_false_eq_true, zn_gT4, zn_gF4, zn_gT8, zn_gF8, zn_gT12, zn_gF12, zn_gT48, zn_gF48, zn_gT124, zn_gF124, zn_gT128, zn_gF128, zn_gT560, zn_gF560, zn_lT7, zn_lF7, zn_lT120, zn_lF120, zn_qT7, zn_qF7, zn_qT120, zn_qF120, zn_qT0, zn_qF0, zn_qT1, zn_qF1, zn_hT0, zn_hF0, zn_hT7, zn_hF7, zn_sb, pk_us, zn_us]
  exact hp
theorem zy_act320 {post : Int32 → SY → Prop} {u t : Nat} (hu : u < 124) (hsc : sc ≤ 12) (ht : t < 4) (h1 : zf_ff (fun s => !fl s) sc 0 = sc → post 1 (nI n, nI sc, nI lm, nI sv, nI bg, nI rl, zc_N gp, zc_N gi, zc_N gx, gv, zc_E gq, zc_E gf, gr, ga, zc_N go, zc_B gs, zc_B gm, zc_B yp, zc_B yup, zc_N ix, zc_N ic, zc_N st, un, rp, dc, zc_N ch, zc_N en, zc_B kn, zc_B fl, zc_N to, zc_E sf, sr, sa, op, ol, ov)) (h2 : ∀ s, s = zf_ff (fun s => !fl s) sc 0 → s < sc → post 1 (nI n, nI sc, nI lm, nI sv, nI bg, nI rl, zc_N gp, zc_N gi, zc_N gx, gv, zc_E gq, zc_E gf, gr, ga, zc_N go, zc_B gs, zc_B gm, zc_B yp, zc_B yup, zc_N ix, zc_N ic, zc_N st, un, rp, dc, zc_N ch, zc_N en, zc_B kn, zc_B (zc_u fl s true), zc_N (zc_u to s t), zc_E (zc_u sf s (u + 1)), (upd sr s (zd_sh (gr u))), (upd sa s (gv u)), op, ol, ov)) : wY_deliver_320 post (nI u) (nI t) (nI n) (nI sc) (nI lm) (nI sv) (nI bg) (nI rl) (zc_N gp) (zc_N gi) (zc_N gx) gv (zc_E gq) (zc_E gf) gr ga (zc_N go) (zc_B gs) (zc_B gm) (zc_B yp) (zc_B yup) (zc_N ix) (zc_N ic) (zc_N st) un rp dc (zc_N ch) (zc_N en) (zc_B kn) (zc_B fl) (zc_N to) (zc_E sf) sr sa op ol ov := by
  unfold wY_deliver_320
  simp (disch := omega) only [zn_k4, zn_k8, zn_k16, zn_k32, zn_m16, zn_a64, zn_a128, nI_add, nI_1, nI_clamp, vp_in_nI, true_and, and_true, forall_eq, zn_rN, zn_rB, zn_rO, zn_rE, zn_vb0, zn_vb1, zn_b1, zn_b0, zn_d1, zn_d0, zn_e1, zn_e0, zn_wN, zn_wB1, zn_wB0, zn_wO, zn_wOd, zn_wO0, zn_wE, zn_wEe, zn_wE0, zn_leT, zn_leF, zn_ltT, zn_ltF, zn_eqF, zn_eqT, zn_lt0, zn_0le, zn_d2a, zn_d2b, zn_e1a, zn_e1b, zn_10, zn_00, zn_sh4, zn_an15, true_imp_iff, false_imp_iff, imp_true_iff, not_true_eq_false, not_false_eq_true, zn_gT4, zn_gF4, zn_gT8, zn_gF8, zn_gT12, zn_gF12, zn_gT48, zn_gF48, zn_gT124, zn_gF124, zn_gT128, zn_gF128, zn_gT560, zn_gF560, zn_lT7, zn_lF7, zn_lT120, zn_lF120, zn_qT7, zn_qF7, zn_qT120, zn_qF120, zn_qT0, zn_qF0, zn_qT1, zn_qF1, zn_hT0, zn_hF0, zn_hT7, zn_hF7, zn_sb, pk_us, zn_us]
  exact zy_put (m := u + 1) hsc h1 h2
theorem zy_act262 {post : Int32 → SY → Prop} {p u d : Nat} (hd : d < 8) (hp4 : p < n) (hu : u < 124) (hn : n ≤ 4) (hsc : sc ≤ 12) (h0 : zd_dst d p n = 0 → post 1 (nI n, nI sc, nI lm, nI sv, nI bg, nI rl, zc_N gp, zc_N gi, zc_N gx, gv, zc_E gq, zc_E gf, gr, ga, zc_N go, zc_B gs, zc_B gm, zc_B yp, zc_B yup, zc_N ix, zc_N ic, zc_N st, un, rp, dc, zc_N ch, zc_N en, zc_B kn, zc_B fl, zc_N to, zc_E sf, sr, sa, op, ol, ov)) (h1 : ∀ t, zd_dst d p n = t + 1 → zf_ff (fun s => !fl s) sc 0 = sc → post 1 (nI n, nI sc, nI lm, nI sv, nI bg, nI rl, zc_N gp, zc_N gi, zc_N gx, gv, zc_E gq, zc_E gf, gr, ga, zc_N go, zc_B gs, zc_B gm, zc_B yp, zc_B yup, zc_N ix, zc_N ic, zc_N st, un, rp, dc, zc_N ch, zc_N en, zc_B kn, zc_B fl, zc_N to, zc_E sf, sr, sa, op, ol, ov)) (h2 : ∀ t s, zd_dst d p n = t + 1 → t < n → s = zf_ff (fun s => !fl s) sc 0 → s < sc → post 1 (nI n, nI sc, nI lm, nI sv, nI bg, nI rl, zc_N gp, zc_N gi, zc_N gx, gv, zc_E gq, zc_E gf, gr, ga, zc_N go, zc_B gs, zc_B gm, zc_B yp, zc_B yup, zc_N ix, zc_N ic, zc_N st, un, rp, dc, zc_N ch, zc_N en, zc_B kn, zc_B (zc_u fl s true), zc_N (zc_u to s t), zc_E (zc_u sf s (u + 1)), (upd sr s (zd_sh (gr u))), (upd sa s (gv u)), op, ol, ov)) : wY_deliver_262 post (nI p) (nI u) (nI d) (nI n) (nI sc) (nI lm) (nI sv) (nI bg) (nI rl) (zc_N gp) (zc_N gi) (zc_N gx) gv (zc_E gq) (zc_E gf) gr ga (zc_N go) (zc_B gs) (zc_B gm) (zc_B yp) (zc_B yup) (zc_N ix) (zc_N ic) (zc_N st) un rp dc (zc_N ch) (zc_N en) (zc_B kn) (zc_B fl) (zc_N to) (zc_E sf) sr sa op ol ov := by
  unfold wY_deliver_262
  by_cases hA : 1 ≤ d ∧ d ≤ 4
  · have e : zd_dst d p n = if d - 1 < n then d else 0 := if_pos hA
    by_cases hB : d - 1 < n
    · rw [if_pos hB] at e
      have k1 := zy_act320 (post := post) (u := u) (t := d - 1) hu hsc (by omega) (h1 (d - 1) (by omega)) (fun s hs hl => h2 (d - 1) s (by omega) hB hs hl)
      simp (disch := omega) only [zn_k4, zn_k8, zn_k16, zn_k32, zn_m16, zn_a64, zn_a128, nI_add, nI_1, nI_clamp, vp_in_nI, true_and, and_true, forall_eq, zn_rN, zn_rB, zn_rO, zn_rE, zn_vb0, zn_vb1, zn_b1, zn_b0, zn_d1, zn_d0, zn_e1, zn_e0, zn_wN, zn_wB1, zn_wB0, zn_wO, zn_wOd, zn_wO0, zn_wE, zn_wEe, zn_wE0, zn_leT, zn_leF, zn_ltT, zn_ltF, zn_eqF, zn_eqT, zn_lt0, zn_0le, zn_d2a, zn_d2b, zn_e1a, zn_e1b, zn_10, zn_00, zn_sh4, zn_an15, true_imp_iff, false_imp_iff, imp_true_iff, not_true_eq_false, not_false_eq_true, zn_gT4, zn_gF4, zn_gT8, zn_gF8, zn_gT12, zn_gF12, zn_gT48, zn_gF48, zn_gT124, zn_gF124, zn_gT128, zn_gF128, zn_gT560, zn_gF560, zn_lT7, zn_lF7, zn_lT120, zn_lF120, zn_qT7, zn_qF7, zn_qT120, zn_qF120, zn_qT0, zn_qF0, zn_qT1, zn_qF1, zn_hT0, zn_hF0, zn_hT7, zn_hF7, zn_sb, pk_us, zn_us, zn_s1, zn_lF1, zn_jF4, wY_deliver_294, zn_qF6]
      exact k1
    · rw [if_neg hB] at e
      have k0 := h0 e
      simp (disch := omega) only [zn_k4, zn_k8, zn_k16, zn_k32, zn_m16, zn_a64, zn_a128, nI_add, nI_1, nI_clamp, vp_in_nI, true_and, and_true, forall_eq, zn_rN, zn_rB, zn_rO, zn_rE, zn_vb0, zn_vb1, zn_b1, zn_b0, zn_d1, zn_d0, zn_e1, zn_e0, zn_wN, zn_wB1, zn_wB0, zn_wO, zn_wOd, zn_wO0, zn_wE, zn_wEe, zn_wE0, zn_leT, zn_leF, zn_ltT, zn_ltF, zn_eqF, zn_eqT, zn_lt0, zn_0le, zn_d2a, zn_d2b, zn_e1a, zn_e1b, zn_10, zn_00, zn_sh4, zn_an15, true_imp_iff, false_imp_iff, imp_true_iff, not_true_eq_false, not_false_eq_true, zn_gT4, zn_gF4, zn_gT8, zn_gF8, zn_gT12, zn_gF12, zn_gT48, zn_gF48, zn_gT124, zn_gF124, zn_gT128, zn_gF128, zn_gT560, zn_gF560, zn_lT7, zn_lF7, zn_lT120, zn_lF120, zn_qT7, zn_qF7, zn_qT120, zn_qF120, zn_qT0, zn_qF0, zn_qT1, zn_qF1, zn_hT0, zn_hF0, zn_hT7, zn_hF7, zn_sb, pk_us, zn_us, zn_s1, zn_lF1, zn_jF4, wY_deliver_294, wY_deliver_320, zn_qF6]
      exact k0
  · have e : zd_dst d p n = if d = 6 then (if p + 1 = n then 1 else p + 2) else 0 := if_neg hA
    have hA2 : d = 0 ∨ 4 < d := by omega
    by_cases h6 : d = 6
    · rw [if_pos h6] at e
      by_cases hB : p + 1 = n
      · rw [if_pos hB] at e
        have k1 := zy_act320 (post := post) (u := u) (t := 0) hu hsc (by omega) (h1 0 (by omega)) (fun s hs hl => h2 0 s (by omega) (by omega) hs hl)
        subst h6
        rw [nI_0] at k1
        refine br_f (by decide) (br_t (by decide) ?_)
        unfold wY_deliver_294
        refine br_t (by decide) (br_t (by rw [nI_1, hB]) ?_)
        exact k1
      · rw [if_neg hB] at e
        have k1 := zy_act320 (post := post) (u := u) (t := p + 1) hu hsc (by omega) (h1 (p + 1) (by omega)) (fun s hs hl => h2 (p + 1) s (by omega) (by omega) hs hl)
        subst h6
        refine br_f (by decide) (br_t (by decide) ?_)
        unfold wY_deliver_294
        refine br_t (by decide) (br_f (by rw [nI_1, nI_eq (by omega) (by omega)]; exact hB) ?_)
        rw [nI_1]
        exact k1
    · rw [if_neg h6] at e
      have k0 := h0 e
      rcases hA2 with hA2 | hA2
      · simp (disch := omega) only [zn_k4, zn_k8, zn_k16, zn_k32, zn_m16, zn_a64, zn_a128, nI_add, nI_1, nI_clamp, vp_in_nI, true_and, and_true, forall_eq, zn_rN, zn_rB, zn_rO, zn_rE, zn_vb0, zn_vb1, zn_b1, zn_b0, zn_d1, zn_d0, zn_e1, zn_e0, zn_wN, zn_wB1, zn_wB0, zn_wO, zn_wOd, zn_wO0, zn_wE, zn_wEe, zn_wE0, zn_leT, zn_leF, zn_ltT, zn_ltF, zn_eqF, zn_eqT, zn_lt0, zn_0le, zn_d2a, zn_d2b, zn_e1a, zn_e1b, zn_10, zn_00, zn_sh4, zn_an15, true_imp_iff, false_imp_iff, imp_true_iff, not_true_eq_false, not_false_eq_true, zn_gT4, zn_gF4, zn_gT8, zn_gF8, zn_gT12, zn_gF12, zn_gT48, zn_gF48, zn_gT124, zn_gF124, zn_gT128, zn_gF128, zn_gT560, zn_gF560, zn_lT7, zn_lF7, zn_lT120, zn_lF120, zn_qT7, zn_qF7, zn_qT120, zn_qF120, zn_qT0, zn_qF0, zn_qT1, zn_qF1, zn_hT0, zn_hF0, zn_hT7, zn_hF7, zn_sb, pk_us, zn_us, zn_lT1, wY_deliver_294, wY_deliver_320, zn_qF6]
        exact k0
      · simp (disch := omega) only [zn_k4, zn_k8, zn_k16, zn_k32, zn_m16, zn_a64, zn_a128, nI_add, nI_1, nI_clamp, vp_in_nI, true_and, and_true, forall_eq, zn_rN, zn_rB, zn_rO, zn_rE, zn_vb0, zn_vb1, zn_b1, zn_b0, zn_d1, zn_d0, zn_e1, zn_e0, zn_wN, zn_wB1, zn_wB0, zn_wO, zn_wOd, zn_wO0, zn_wE, zn_wEe, zn_wE0, zn_leT, zn_leF, zn_ltT, zn_ltF, zn_eqF, zn_eqT, zn_lt0, zn_0le, zn_d2a, zn_d2b, zn_e1a, zn_e1b, zn_10, zn_00, zn_sh4, zn_an15, true_imp_iff, false_imp_iff, imp_true_iff, not_true_eq_false, not_false_eq_true, zn_gT4, zn_gF4, zn_gT8, zn_gF8, zn_gT12, zn_gF12, zn_gT48, zn_gF48, zn_gT124, zn_gF124, zn_gT128, zn_gF128, zn_gT560, zn_gF560, zn_lT7, zn_lF7, zn_lT120, zn_lF120, zn_qT7, zn_qF7, zn_qT120, zn_qF120, zn_qT0, zn_qF0, zn_qT1, zn_qF1, zn_hT0, zn_hF0, zn_hT7, zn_hF7, zn_sb, pk_us, zn_us, zn_lF1, zn_jT4, wY_deliver_294, wY_deliver_320, zn_qF6]
        exact k0
end
end
section
/-! the relation's pieces -/
def zc_s (gp : Nat → Nat) (m : Nat) : Int32 := match m with | 0 => 7 | u + 1 => nI (gp u)
def zr_num (n sc lm sv rl bg : Nat) : Prop := (2 ≤ n ∧ n ≤ 4) ∧ (2 ≤ sc ∧ sc ≤ 12) ∧ (3 ≤ lm ∧ lm ≤ 12) ∧ (1 ≤ sv ∧ sv ≤ 4) ∧ rl ≤ 48 ∧ bg ≤ 120
def zr_b1 (lm : Nat) (ix ic st en : Nat → Nat) : Prop := (∀ j, ix j ≤ lm) ∧ (∀ j, ic j ≤ 7) ∧ (∀ j, st j ≤ ix j) ∧ (∀ j, en j ≤ 12)
def zr_b2 (xo xp xt xk xl xm : Nat → Nat) : Prop := (∀ j, xo j ≤ 2) ∧ (∀ j, xp j ≤ 128) ∧ (∀ j, xt j ≤ 4) ∧ (∀ j, xk j < 256) ∧ (∀ j, xl j ≤ 16) ∧ (∀ j, xm j ≤ 13)
def zr_b3 (gp gi gx go ch to : Nat → Nat) : Prop := (∀ j, gp j < 4) ∧ (∀ j, gi j ≤ 7) ∧ (∀ j, gx j ≤ 12) ∧ (∀ j, go j ≤ 2) ∧ (∀ j, ch j < 124) ∧ (∀ j, to j < 4)
def zr_up (n : Nat) (xup yup : Nat → Bool) (ic ix en : Nat → Nat) : Prop := ∀ p, p < n → xup p = yup p ∧ (yup p = false → ic p < 7) ∧ (yup p = true → 0 < ic p → en (p * 8 + (ic p - 1)) ≤ ix p)
def zr_k1 (n : Nat) (ic : Nat → Nat) (kn : Nat → Bool) (xk xl en : Nat → Nat) : Prop :=
  ∀ r x, r < n → x < n → (∀ k, k < 8 → kn (r * 32 + x * 8 + k) = true → k < ic x) ∧ (∀ k, k < 8 → (xk (r * 4 + x)).testBit k = kn (r * 32 + x * 8 + k)) ∧ (∀ a i, a < 8 → i < 16 → (xl ((r * 4 + x) * 8 + a) < i ↔ ∃ k, a ≤ k ∧ k < 8 ∧ kn (r * 32 + x * 8 + k) = true ∧ en (x * 8 + k) < i))
def zr_k2 (n : Nat) (ic : Nat → Nat) (kn : Nat → Bool) : Prop := ∀ p k, p < n → k < ic p → kn (p * 32 + p * 8 + k) = true
/-- (a, i) comes before (b, j) on a chain of x -/
def zr_an (en : Nat → Nat) (x a i b j : Nat) : Prop := a ≤ b ∧ i ≤ j ∧ ∀ k, a ≤ k → k < b → i ≤ en (x * 8 + k)
def zr_iv (n N : Nat) (gp gi gx gq gf ic en : Nat → Nat) : Prop :=
  (∀ u, u < N → gp u < n ∧ gi u ≤ ic (gp u) ∧ (0 < gi u → en (gp u * 8 + (gi u - 1)) < gx u)) ∧ (∀ u, u < n → gx u = 0 ∧ gq u = 0 ∧ gf u = 0)
def zr_D (n N : Nat) (gp gi gx en : Nat → Nat) (P : Nat → Nat → Bool) (D : Nat → Nat → Nat) : Prop :=
  (∀ x, D 0 x = 0)
  ∧ (∀ m z, m ≤ N → P m z = true → D m (gp z) ≠ 0 ∧ zr_an en (gp z) (gi z) (gx z) ((D m (gp z) - 1) / 16) ((D m (gp z) - 1) % 16))
  ∧ (∀ m x, m ≤ N → D m x ≠ 0 → ∃ z, P m z = true ∧ gp z = x ∧ D m x = 16 * gi z + gx z + 1)
  ∧ (∀ u, u < N → D (u + 1) (gp u) = 16 * gi u + gx u + 1)
def zr_cur (N : Nat) (yup : Nat → Bool) (ic ix gp gi gx : Nat → Nat) : Prop := ∀ u, u < N → yup (gp u) = true → gi u = ic (gp u) → gx u ≤ ix (gp u)
def zr_ch (n N : Nat) (ix ic ch en gp gi gx : Nat → Nat) (P : Nat → Nat → Bool) : Prop :=
  (∀ p i, p < n → i ≤ ix p → ch (p * 16 + i) < N ∧ gp (ch (p * 16 + i)) = p ∧ gx (ch (p * 16 + i)) = i ∧ ∀ k, gi (ch (p * 16 + i)) ≤ k → k < ic p → i ≤ en (p * 8 + k))
  ∧ (∀ w, w < N → gx w ≤ ix (gp w) → (∀ k, gi w ≤ k → k < ic (gp w) → gx w ≤ en (gp w * 8 + k)) → ch (gp w * 16 + gx w) = w)
  ∧ (∀ p i j z, p < n → i ≤ j → j ≤ ix p → P (ch (p * 16 + i) + 1) z = true → P (ch (p * 16 + j) + 1) z = true)
  ∧ (∀ p, p < n → ch (p * 16 + 0) = p)
def zr_K (n : Nat) (ix ch gp gi gx en : Nat → Nat) (kn : Nat → Bool) (P : Nat → Nat → Bool) : Prop :=
  ∀ p i z, p < n → i ≤ ix p → P (ch (p * 16 + i) + 1) z = true → (∀ k, k < gi z → kn (p * 32 + gp z * 8 + k) = true) ∧ (∀ k, gi z ≤ k → k < 8 → kn (p * 32 + gp z * 8 + k) = true → gx z ≤ en (gp z * 8 + k))
def zr_v (n : Nat) (ix ch gf xp : Nat → Nat) (D : Nat → Nat → Nat) : Prop :=
  ∀ p i x, p < n → i ≤ ix p → x < 4 → xp ((p * 16 + i) * 4 + x) = D (ch (p * 16 + i) + 1) x ∧ (1 ≤ i → xp ((64 + (p * 16 + i)) * 4 + x) = D (gf (ch (p * 16 + i))) x)
def zr_d (n : Nat) (ix ch gp gf : Nat → Nat) (gv gr ga xv xrs xrr xra : Nat → Int32) (gs xs : Nat → Bool) (go xo : Nat → Nat) : Prop :=
  ∀ p i, p < n → i ≤ ix p → xv (p * 16 + i) = gv (ch (p * 16 + i)) ∧ xs (p * 16 + i) = gs (ch (p * 16 + i)) ∧ xo (p * 16 + i) = go (ch (p * 16 + i)) ∧ xrr (p * 16 + i) = gr (ch (p * 16 + i)) ∧ xra (p * 16 + i) = ga (ch (p * 16 + i)) ∧ xrs (p * 16 + i) = if i = 0 then -2 else zc_s gp (gf (ch (p * 16 + i)))
def zr_s (n N sc : Nat) (fl : Nat → Bool) (to sf xt gp xp : Nat → Nat) (xss : Nat → Int32) (D : Nat → Nat → Nat) : Prop :=
  ∀ s, s < sc → fl s = decide (xt s ≠ 0) ∧ (xt s ≠ 0 → xt s = to s + 1 ∧ to s < n ∧ sf s ≤ N ∧ xss s = zc_s gp (sf s) ∧ ∀ x, x < 4 → xp ((128 + s) * 4 + x) = D (sf s) x)
def zr_m (n N : Nat) (gm : Nat → Bool) (xm gp gi gx en : Nat → Nat) : Prop :=
  (∀ r u, r < n → u < N → gp u ≠ r → (gm (u * 4 + r) = true ↔ gx u < xm ((r * 4 + gp u) * 8 + gi u)))
  ∧ (∀ r u w, r < n → u < N → w < N → gp w = gp u → gp u ≠ r → gm (u * 4 + r) = true → zr_an en (gp u) (gi w) (gx w) (gi u) (gx u) → gm (w * 4 + r) = true)
  ∧ (∀ r x a, r < n → x < n → x ≠ r → a < 8 → xm ((r * 4 + x) * 8 + a) ≠ 0 → ∃ u, u < N ∧ gp u = x ∧ gi u = a ∧ xm ((r * 4 + x) * 8 + a) = gx u + 1)
def zr_sm (n : Nat) (gm : Nat → Bool) (ix st ch : Nat → Nat) : Prop := ∀ p i, p < n → i ≤ ix p → (gm (ch (p * 16 + i) * 4 + p) = true ↔ i ≤ st p)
def zr_fr (N : Nat) (go : Nat → Nat) (gs gm : Nat → Bool) : Prop := ∀ u, N ≤ u → go u = 0 ∧ gs u = false ∧ ∀ r, r < 4 → gm (u * 4 + r) = false
def zr_sv (n sv : Nat) (ix : Nat → Nat) (xs : Nat → Bool) : Prop := ∀ p, p < n → zf_cnt (fun j => xs (p * 16 + j)) (ix p) 1 ≤ sv
section
variable {n sc lm sv rl bg : Nat} {xup xs gs gm yp yup kn fl : Nat → Bool} {ix ic st xo xp xt en xk xl xm gp gi gx gq gf go ch to sf : Nat → Nat} {un rp dc xv xrs xrr xra xss sr sa op ol ov gv gr ga : Nat → Int32}
variable {P : Nat → Nat → Bool} {D : Nat → Nat → Nat} {N m r v : Nat}
theorem zr_anT {x a i b j c k : Nat} (h1 : zr_an en x a i b j) (h2 : zr_an en x b j c k) : zr_an en x a i c k := by
  refine ⟨Nat.le_trans h1.1 h2.1, Nat.le_trans h1.2.1 h2.2.1, fun q h3 h4 => ?_⟩
  rcases Nat.lt_or_ge q b with h | h
  · exact h1.2.2 q h3 h
  · exact Nat.le_trans h1.2.1 (h2.2.2 q h h4)
theorem zr_lz (hgx : ∀ j, gx j ≤ 12) {c z : Nat} (h : c = 16 * gi z + gx z + 1) : (c - 1) / 16 = gi z ∧ (c - 1) % 16 = gx z := by
  have := hgx z
  omega
theorem zr_bx {a b : Bool} (h : a = true ↔ b = true) : a = b := by
  cases a <;> cases b <;> simp at h <;> rfl
theorem zr_orph (hn : n ≤ 4) (hN : N ≤ 124) (hb : zr_b3 gp gi gx go ch to) (hk : zr_k1 n ic kn xk xl en) (G : zg_G N gq gf P) (hiv : zr_iv n N gp gi gx gq gf ic en) (hD : zr_D n N gp gi gx en P D) (hm : m ≤ N) (hr : r < n) (hv : ∀ x, x < 4 → xp (v * 4 + x) = D m x) : zq_orph xp xl n r v = zq_yor P gp gi gx en kn m r := by
  apply zr_bx
  unfold zq_orph zq_yor
  rw [zf_ex_iff, zf_ex_iff]
  constructor
  · rintro ⟨x, _, hx, hq⟩
    unfold zq_ol at hq
    rw [decide_eq_true_eq, hv x (by omega)] at hq
    obtain ⟨z, hz, hg, hc⟩ := hD.2.2.1 m x hm hq.1
    have hzm := zg_lt G m m (Nat.le_refl m) hm z hz
    have hl := zr_lz hb.2.2.1 hc
    rw [hl.1, hl.2] at hq
    have h7 := hb.2.1 z
    have h12 := hb.2.2.1 z
    obtain ⟨k, h1, h2, h3, h4⟩ := ((hk r x hr (by omega)).2.2 (gi z) (gx z) (by omega) (by omega)).mp hq.2
    refine ⟨z, by omega, by omega, ?_⟩
    rw [hz, Bool.true_and]
    unfold zq_lost
    rw [zf_ex_iff]
    refine ⟨k, h1, by omega, ?_⟩
    unfold zq_lk
    rw [hg, ← Nat.add_assoc, h3, Bool.true_and]
    exact decide_eq_true h4
  · rintro ⟨z, _, hz, hq⟩
    rw [Bool.and_eq_true] at hq
    have hzm := zg_lt G m m (Nat.le_refl m) hm z hq.1
    have hu := hiv.1 z (by omega)
    obtain ⟨k, h1, h2, h3⟩ := (zf_ex_iff _ _ _).mp hq.2
    unfold zq_lk at h3
    rw [Bool.and_eq_true, ← Nat.add_assoc, decide_eq_true_eq] at h3
    have hd := hD.2.1 m z hm hq.1
    obtain ⟨z', hz', hg', hc'⟩ := hD.2.2.1 m (gp z) hm hd.1
    have hl := zr_lz hb.2.2.1 hc'
    have h7 := hb.2.1 z'
    have h7z := hb.2.1 z
    have h12 := hb.2.2.1 z'
    have ha := hd.2
    rw [hl.1, hl.2] at ha
    refine ⟨gp z, by omega, by omega, ?_⟩
    unfold zq_ol
    rw [decide_eq_true_eq, hv (gp z) (by omega), hl.1, hl.2]
    refine ⟨hd.1, ?_⟩
    rw [(hk r (gp z) hr hu.1).2.2 (gi z') (gx z') (by omega) (by omega)]
    have hka : gi z' ≤ k := by
      rcases Nat.lt_or_ge k (gi z') with h | h
      · have := ha.2.2 k h1 h
        omega
      · exact h
    have := ha.2.1
    exact ⟨k, hka, by omega, h3.1, by omega⟩
theorem zr_wait (hn : n ≤ 4) (hN : N ≤ 124) (hb : zr_b3 gp gi gx go ch to) (hk : zr_k1 n ic kn xk xl en) (G : zg_G N gq gf P) (hiv : zr_iv n N gp gi gx gq gf ic en) (hD : zr_D n N gp gi gx en P D) (hm : m ≤ N) (hr : r < n) (hv : ∀ x, x < 4 → xp (v * 4 + x) = D m x) : zq_wait xp xk n r v = zq_ywt P gp gi kn m r := by
  apply zr_bx
  unfold zq_wait zq_ywt
  rw [zf_ex_iff, zf_ex_iff]
  constructor
  · rintro ⟨x, _, hx, hq⟩
    unfold zq_wl at hq
    rw [hv x (by omega)] at hq
    by_cases h0 : D m x = 0
    · rw [if_pos h0] at hq; exact absurd hq (by decide)
    · rw [if_neg h0, zf_ex_iff] at hq
      obtain ⟨k, _, h2, h3⟩ := hq
      obtain ⟨z, hz, hg, hc⟩ := hD.2.2.1 m x hm h0
      have hzm := zg_lt G m m (Nat.le_refl m) hm z hz
      have hl := zr_lz hb.2.2.1 hc
      have h7 := hb.2.1 z
      rw [hl.1] at h2
      refine ⟨z, by omega, by omega, ?_⟩
      rw [hz, Bool.true_and]
      unfold zq_yw
      rw [zf_ex_iff]
      refine ⟨k, by omega, by omega, ?_⟩
      rw [(hk r x hr (by omega)).2.1 k (by omega)] at h3
      rw [hg]
      exact h3
  · rintro ⟨z, _, hz, hq⟩
    rw [Bool.and_eq_true] at hq
    have hzm := zg_lt G m m (Nat.le_refl m) hm z hq.1
    have hu := hiv.1 z (by omega)
    obtain ⟨k, _, h2, h3⟩ := (zf_ex_iff _ _ _).mp hq.2
    have hd := hD.2.1 m z hm hq.1
    have h7 := hb.2.1 z
    refine ⟨gp z, by omega, by omega, ?_⟩
    unfold zq_wl
    rw [hv (gp z) (by omega), if_neg hd.1, zf_ex_iff]
    have := hd.2.1
    refine ⟨k, by omega, by omega, ?_⟩
    rw [(hk r (gp z) hr hu.1).2.1 k (by omega)]
    exact h3
theorem zr_great (hN : N ≤ 124) (G : zg_G N gq gf P) (hb : zr_b3 gp gi gx go ch to) (hD : zr_D n N gp gi gx en P D) (hm : m ≤ N) (x : Nat) : zq_gr P gp gi gx m x = D m x := by
  unfold zq_gr
  have hge := zf_mx_ge (zq_gw P gp gi gx m x) 124 0 0
  have hw : ∀ z, zq_gw P gp gi gx m x z ≤ D m x := by
    intro z
    unfold zq_gw
    by_cases h : P m z = true ∧ gp z = x
    · rw [if_pos h]
      have hd := hD.2.1 m z hm h.1
      rw [h.2] at hd
      have h1 := hd.2.1
      have h2 := hd.2.2.1
      have h3 := hd.1
      omega
    · rw [if_neg h]; exact Nat.zero_le _
  have hle : zf_mx (zq_gw P gp gi gx m x) 124 0 0 ≤ D m x := by
    rcases zf_mx_in (zq_gw P gp gi gx m x) 124 0 0 with h | ⟨j, _, _, h⟩
    · rw [h]; exact Nat.zero_le _
    · rw [h]; exact hw j
  by_cases h0 : D m x = 0
  · omega
  · obtain ⟨z, hz, hg, hc⟩ := hD.2.2.1 m x hm h0
    have hzm := zg_lt G m m (Nat.le_refl m) hm z hz
    have h1 := hge.2 z (by omega) (by omega)
    have h2 : zq_gw P gp gi gx m x z = 16 * gi z + gx z + 1 := if_pos ⟨hz, hg⟩
    omega
theorem zr_allm {i : Nat} (hn : n ≤ 4) (hN : N ≤ 124) (hb : zr_b3 gp gi gx go ch to) (G : zg_G N gq gf P) (hiv : zr_iv n N gp gi gx gq gf ic en) (hD : zr_D n N gp gi gx en P D) (hc : zr_ch n N ix ic ch en gp gi gx P) (hv : zr_v n ix ch gf xp D) (hmk : zr_m n N gm xm gp gi gx en) (hsm : zr_sm n gm ix st ch) (hr : r < n) (hi : i ≤ ix r) (hs : i ≤ st r) : zq_mark xp xm n r (r * 16 + i) = zq_yam P gm (ch (r * 16 + i) + 1) r := by
  have hch := hc.1 r i hr hi
  have hm : ch (r * 16 + i) + 1 ≤ N := hch.1
  apply zr_bx
  unfold zq_mark zq_yam
  rw [Bool.not_eq_true', Bool.not_eq_true', zf_ex_f, zf_ex_f]
  constructor
  · intro h z _ hz
    cases hP : P (ch (r * 16 + i) + 1) z with
    | false => rfl
    | true =>
      have hzm := zg_lt G _ _ (Nat.le_refl _) hm z hP
      have hu := hiv.1 z (by omega)
      have hd := hD.2.1 _ z hm hP
      have hg : gm (z * 4 + r) = true := by
        by_cases hgr : gp z = r
        · have ho := hD.2.2.2 (ch (r * 16 + i)) (by omega)
          rw [hch.2.1] at ho
          rw [hgr] at hd
          have hl := zr_lz hb.2.2.1 ho
          rw [hl.1, hl.2, hch.2.2.1] at hd
          have h1 := hc.2.1 z (by omega) (by rw [hgr]; have := hd.2.2.1; omega) (fun k h1 h2 => by
            rw [hgr] at h2 ⊢
            rcases Nat.lt_or_ge k (gi (ch (r * 16 + i))) with h3 | h3
            · exact hd.2.2.2 k h1 h3
            · exact Nat.le_trans hd.2.2.1 (hch.2.2.2 k h3 h2))
          have h2 := (hsm r (gx z) hr (by have := hd.2.2.1; omega)).mpr (by have := hd.2.2.1; omega)
          rw [hgr] at h1
          rw [h1] at h2
          exact h2
        · obtain ⟨z', hz', hg', hc'⟩ := hD.2.2.1 _ (gp z) hm hd.1
          have hzm' := zg_lt G _ _ (Nat.le_refl _) hm z' hz'
          have hl := zr_lz hb.2.2.1 hc'
          have h1 := h (gp z) (by omega) (by omega)
          unfold zq_ml at h1
          rw [decide_eq_false_iff_not, (hv r i (gp z) hr hi (by omega)).1, hl.1, hl.2] at h1
          have h2 : gx z' < xm ((r * 4 + gp z) * 8 + gi z') := Nat.lt_of_not_le (fun h3 => h1 ⟨hgr, hd.1, h3⟩)
          rw [← hg'] at h2
          have h4 := (hmk.1 r z' hr (by omega) (by omega)).mpr h2
          have ha := hd.2
          rw [hl.1, hl.2, ← hg'] at ha
          exact hmk.2.1 r z' z hr (by omega) (by omega) hg'.symm (by omega) h4 ha
      rw [hg]; rfl
  · intro h x _ hx
    unfold zq_ml
    rw [decide_eq_false_iff_not, (hv r i x hr hi (by omega)).1]
    rintro ⟨hxr, h0, hle⟩
    obtain ⟨z, hz, hg, hcz⟩ := hD.2.2.1 _ x hm h0
    have hzm := zg_lt G _ _ (Nat.le_refl _) hm z hz
    have hl := zr_lz hb.2.2.1 hcz
    have h1 := h z (by omega) (by omega)
    rw [hz, Bool.true_and, Bool.not_eq_false'] at h1
    have h2 := (hmk.1 r z hr (by omega) (by omega)).mp h1
    rw [hl.1, hl.2] at hle
    rw [hg] at h2
    omega
theorem zr_allm0 {i : Nat} (hN : N ≤ 124) (G : zg_G N gq gf P) (hc : zr_ch n N ix ic ch en gp gi gx P) (hsm : zr_sm n gm ix st ch) (hr : r < n) (hi : i ≤ ix r) (hs : st r < i) : zq_yam P gm (ch (r * 16 + i) + 1) r = false := by
  have hch := hc.1 r i hr hi
  unfold zq_yam
  rw [Bool.not_eq_false', zf_ex_iff]
  refine ⟨ch (r * 16 + i), by omega, by omega, ?_⟩
  rw [zg_self G hch.1, Bool.true_and]
  cases hg : gm (ch (r * 16 + i) * 4 + r) with
  | false => rfl
  | true =>
    have := (hsm r i hr hi).mp hg
    omega
end
end
section
/-! the whole relation's facts, and how cuts, ends and learning keep them -/
def zr_F (n sc lm sv rl bg : Nat) (ix ic st en xo xp xt xk xl xm gp gi gx go ch to gq gf sf : Nat → Nat) (xup yup kn fl xs gs gm : Nat → Bool) (gv gr ga xv xrs xrr xra xss : Nat → Int32) (P : Nat → Nat → Bool) (D : Nat → Nat → Nat) : Prop :=
  zr_num n sc lm sv rl bg ∧ zr_b1 lm ix ic st en ∧ zr_b2 xo xp xt xk xl xm ∧ zr_b3 gp gi gx go ch to ∧ zr_up n xup yup ic ix en
  ∧ zr_k1 n ic kn xk xl en ∧ zr_k2 n ic kn ∧ zg_G (n + bg) gq gf P ∧ zr_iv n (n + bg) gp gi gx gq gf ic en ∧ zr_D n (n + bg) gp gi gx en P D
  ∧ zr_cur (n + bg) yup ic ix gp gi gx ∧ zr_ch n (n + bg) ix ic ch en gp gi gx P ∧ zr_K n ix ch gp gi gx en kn P ∧ zr_v n ix ch gf xp D
  ∧ zr_d n ix ch gp gf gv gr ga xv xrs xrr xra gs xs go xo ∧ zr_s n (n + bg) sc fl to sf xt gp xp xss D ∧ zr_m n (n + bg) gm xm gp gi gx en
  ∧ zr_sm n gm ix st ch ∧ zr_fr (n + bg) go gs gm ∧ zr_sv n sv ix xs
section
variable {n sc lm sv rl bg : Nat} {xup xs gs gm yp yup kn fl : Nat → Bool} {ix ic st xo xp xt en xk xl xm gp gi gx gq gf go ch to sf : Nat → Nat} {un rp dc xv xrs xrr xra xss sr sa op ol ov gv gr ga : Nat → Int32}
variable {P : Nat → Nat → Bool} {D : Nat → Nat → Nat} {N m r v : Nat}
theorem zr_cutF {p i : Nat} (F : zr_F n sc lm sv rl bg ix ic st en xo xp xt xk xl xm gp gi gx go ch to gq gf sf xup yup kn fl xs gs gm gv gr ga xv xrs xrr xra xss P D) (hp : p < n) (hi : i ≤ ix p) (h7 : ic p < 7) : zr_F n sc lm sv rl bg (zc_u ix p i) ic (if st p ≤ i then st else zc_u st p i) en xo xp xt xk xl xm gp gi gx go ch to gq gf sf (zc_u xup p false) (zc_u yup p false) kn fl xs gs gm gv gr ga xv xrs xrr xra xss P D := by
  obtain ⟨hnum, hb1, hb2, hb3, hup, hk1, hk2, hG, hiv, hD, hcur, hch, hK, hv, hd, hs, hm, hsm, hfr, hsv⟩ := F
  have hle : ∀ q, zc_u ix p i q ≤ ix q := by
    intro q
    unfold zc_u
    by_cases h : q = p
    · rw [if_pos h, h]; exact hi
    · rw [if_neg h]; exact Nat.le_refl _
  have hst : ∀ q, (if st p ≤ i then st else zc_u st p i) q = if q = p then (if st p ≤ i then st p else i) else st q := by
    intro q
    by_cases h : q = p
    · subst h
      rw [if_pos rfl]
      by_cases h2 : st q ≤ i
      · rw [if_pos h2, if_pos h2]
      · rw [if_neg h2, if_neg h2, zn_us]
    · rw [if_neg h]
      by_cases h2 : st p ≤ i
      · rw [if_pos h2]
      · rw [if_neg h2, zn_un h]
  refine ⟨hnum, ⟨fun j => Nat.le_trans (hle j) (hb1.1 j), hb1.2.1, fun j => ?_, hb1.2.2.2⟩, hb2, hb3, fun q hq => ?_, hk1, hk2, hG, hiv, hD, fun u hu hy he => ?_, ⟨fun q i' hq hi' => hch.1 q i' hq (Nat.le_trans hi' (hle q)), fun w hw h1 h2 => hch.2.1 w hw (Nat.le_trans h1 (hle _)) h2, fun q a b z hq hab hb hz => hch.2.2.1 q a b z hq hab (Nat.le_trans hb (hle q)) hz, hch.2.2.2⟩, fun q i' z hq hi' hz => hK q i' z hq (Nat.le_trans hi' (hle q)) hz, fun q i' x hq hi' hx => hv q i' x hq (Nat.le_trans hi' (hle q)) hx, fun q i' hq hi' => hd q i' hq (Nat.le_trans hi' (hle q)), hs, hm, fun q i' hq hi' => ?_, hfr, fun q hq => Nat.le_trans (zf_cnt_mono _ (hle q) 1) (hsv q hq)⟩
  · rw [hst j]
    by_cases h : j = p
    · subst h
      rw [if_pos rfl, zn_us]
      by_cases h2 : st j ≤ i
      · rw [if_pos h2]; exact h2
      · rw [if_neg h2]; exact Nat.le_refl _
    · rw [if_neg h, zn_un h]; exact hb1.2.2.1 j
  · by_cases h : q = p
    · subst h
      rw [zn_us, zn_us]
      exact ⟨rfl, fun _ => h7, fun h => absurd h (by decide)⟩
    · rw [zn_un h, zn_un h, zn_un h]
      exact hup q hq
  · by_cases h : gp u = p
    · rw [h, zn_us] at hy; exact absurd hy (by decide)
    · rw [zn_un h] at hy ⊢
      exact hcur u hu hy he
  · have h1 := hsm q i' hq (Nat.le_trans hi' (hle q))
    rw [h1, hst q]
    by_cases h : q = p
    · subst h
      rw [if_pos rfl]
      rw [zn_us] at hi'
      by_cases h2 : st q ≤ i
      · rw [if_pos h2]
      · rw [if_neg h2]; omega
    · rw [if_neg h]
theorem zl_lt {f : Nat → Nat} {B c e a i : Nat} : zl_ln f B c e (B + a) < i ↔ f (B + a) < i ∨ (a < c ∧ e < i) := by
  unfold zl_ln
  by_cases h : (B ≤ B + a ∧ B + a < B + c) ∧ e < f (B + a)
  · rw [if_pos h]; omega
  · rw [if_neg h]
    constructor
    · exact Or.inl
    · rintro (h1 | h1)
      · exact h1
      · have : ¬ e < f (B + a) := fun z => h ⟨by omega, z⟩
        omega
theorem zl_o {f : Nat → Nat} {B c e j : Nat} (h : j < B ∨ B + c ≤ j) : zl_ln f B c e j = f j := if_neg (fun z => absurd z.1 (by omega))
theorem zr_k1L {x k : Nat} (hk1 : zr_k1 n ic kn xk xl en) (hr : r < n) (hx : x < n) (hn : n ≤ 4) (hk : k < 8) (hkc : k < ic x) : zr_k1 n ic (zc_u kn (r * 32 + x * 8 + k) true) (zc_u xk (r * 4 + x) (xk (r * 4 + x) ||| 2 ^ k)) (zl_ln xl ((r * 4 + x) * 8) (k + 1) (en (x * 8 + k))) en := by
  intro r' x' hr' hx'
  have h0 := hk1 r' x' hr' hx'
  by_cases he : r' = r ∧ x' = x
  · obtain ⟨rfl, rfl⟩ := he
    refine ⟨fun q hq h => ?_, fun q hq => ?_, fun a i ha hi => ?_⟩
    · rcases zn_ut.mp h with h | h
      · exact h0.1 q hq h
      · obtain rfl : q = k := by omega
        exact hkc
    · rw [zn_us, Nat.testBit_or, h0.2.1 q hq, Nat.testBit_two_pow]
      by_cases hqk : k = q
      · subst hqk
        rw [zn_us]
        simp
      · rw [zn_un (by omega)]
        simp [hqk]
    · rw [zl_lt, h0.2.2 a i ha hi]
      constructor
      · rintro (⟨q, h1, h2, h3, h4⟩ | ⟨h1, h2⟩)
        · exact ⟨q, h1, h2, zn_ut.mpr (Or.inl h3), h4⟩
        · exact ⟨k, by omega, hk, zn_us, h2⟩
      · rintro ⟨q, h1, h2, h3, h4⟩
        rcases zn_ut.mp h3 with h | h
        · exact Or.inl ⟨q, h1, h2, h, h4⟩
        · obtain rfl : q = k := by omega
          exact Or.inr ⟨by omega, h4⟩
  · have hne : ∀ q, q < 8 → r' * 32 + x' * 8 + q ≠ r * 32 + x * 8 + k := by intro q hq h; omega
    have hne4 : r' * 4 + x' ≠ r * 4 + x := by omega
    refine ⟨fun q hq h => ?_, fun q hq => ?_, fun a i ha hi => ?_⟩
    · rw [zn_un (hne q hq)] at h; exact h0.1 q hq h
    · rw [zn_un (hne q hq), zn_un hne4]; exact h0.2.1 q hq
    · rw [zl_o (by omega), h0.2.2 a i ha hi]
      constructor
      · rintro ⟨q, h1, h2, h3, h4⟩
        exact ⟨q, h1, h2, by rw [zn_un (hne q h2)]; exact h3, h4⟩
      · rintro ⟨q, h1, h2, h3, h4⟩
        rw [zn_un (hne q h2)] at h3
        exact ⟨q, h1, h2, h3, h4⟩
theorem zr_xkL {k a : Nat} (h : ∀ j, xk j < 256) (hk : k < 8) : ∀ j, zc_u xk a (xk a ||| 2 ^ k) j < 256 := by
  intro j
  unfold zc_u
  split
  · exact Nat.or_lt_two_pow (n := 8) (h a) (Nat.pow_lt_pow_right (by decide) hk)
  · exact h j
theorem zr_learnF {x k : Nat} (F : zr_F n sc lm sv rl bg ix ic st en xo xp xt xk xl xm gp gi gx go ch to gq gf sf xup yup kn fl xs gs gm gv gr ga xv xrs xrr xra xss P D) (hr : r < n) (hx : x < n) (hkc : k < ic x) (hn : ∀ i z, i ≤ ix r → P (ch (r * 16 + i) + 1) z = true → gp z = x → gi z ≤ k → gx z ≤ en (x * 8 + k)) : zr_F n sc lm sv rl bg ix ic st en xo xp xt (zc_u xk (r * 4 + x) (xk (r * 4 + x) ||| 2 ^ k)) (zl_ln xl ((r * 4 + x) * 8) (k + 1) (en (x * 8 + k))) xm gp gi gx go ch to gq gf sf xup yup (zc_u kn (r * 32 + x * 8 + k) true) fl xs gs gm gv gr ga xv xrs xrr xra xss P D := by
  obtain ⟨hnum, hb1, hb2, hb3, hup, hk1, hk2, hG, hiv, hD, hcur, hch, hK, hv, hd, hs, hm, hsm, hfr, hsv⟩ := F
  have hk8 : k < 8 := by have := hb1.2.1 x; omega
  refine ⟨hnum, hb1, ⟨hb2.1, hb2.2.1, hb2.2.2.1, zr_xkL hb2.2.2.2.1 hk8, zl_lnb hb2.2.2.2.2.1 _ _ _, hb2.2.2.2.2.2⟩, hb3, hup, zr_k1L hk1 hr hx hnum.1.2 hk8 hkc, fun p q hp hq => zn_ut.mpr (Or.inl (hk2 p q hp hq)), hG, hiv, hD, hcur, hch, fun p i z hp hi hz => ?_, hv, hd, hs, hm, hsm, hfr, hsv⟩
  have h0 := hK p i z hp hi hz
  refine ⟨fun q hq => zn_ut.mpr (Or.inl (h0.1 q hq)), fun q h1 h2 h3 => ?_⟩
  rcases zn_ut.mp h3 with h | h
  · exact h0.2 q h1 h2 h
  · have h4 := hch.1 p i hp hi
    have hzN := zg_lt hG _ _ (Nat.le_refl _) h4.1 z hz
    have hu := hiv.1 z (by omega)
    have hn4 := hnum.1.2
    obtain ⟨rfl, h5, rfl⟩ : p = r ∧ gp z = x ∧ q = k := by omega
    have := hn i z hi hz h5 h1
    rw [h5]; exact this
theorem zr_recF {p : Nat} (F : zr_F n sc lm sv rl bg ix ic st en xo xp xt xk xl xm gp gi gx go ch to gq gf sf xup yup kn fl xs gs gm gv gr ga xv xrs xrr xra xss P D) (hp : p < n) (hdn : yup p = false) : zr_F n sc lm sv rl bg ix (zc_u ic p (ic p + 1)) st (zc_u en (p * 8 + ic p) (ix p)) xo xp xt (zc_u xk (p * 4 + p) (xk (p * 4 + p) ||| 2 ^ ic p)) (zl_ln xl ((p * 4 + p) * 8) (ic p + 1) (ix p)) xm gp gi gx go ch to gq gf sf (zc_u xup p true) (zc_u yup p true) (zc_u kn (p * 32 + p * 8 + ic p) true) fl xs gs gm gv gr ga xv xrs xrr xra xss P D := by
  obtain ⟨hnum, hb1, hb2, hb3, hup, hk1, hk2, hG, hiv, hD, hcur, hch, hK, hv, hd, hs, hm, hsm, hfr, hsv⟩ := F
  have h7 := (hup p hp).2.1 hdn
  have hn4 := hnum.1.2
  have hen : ∀ x k, k < 8 → k < ic x → zc_u en (p * 8 + ic p) (ix p) (x * 8 + k) = en (x * 8 + k) := by
    intro x k hk hkc
    apply zn_un
    intro h
    obtain ⟨rfl, rfl⟩ : x = p ∧ k = ic p := by omega
    omega
  have hic : ∀ q, ic q ≤ zc_u ic p (ic p + 1) q := by
    intro q
    by_cases h : q = p
    · subst h; rw [zn_us]; omega
    · rw [zn_un h]; exact Nat.le_refl _
  have hep : zc_u en (p * 8 + ic p) (ix p) (p * 8 + ic p) = ix p := zn_us
  have hk1' : zr_k1 n (zc_u ic p (ic p + 1)) kn xk xl (zc_u en (p * 8 + ic p) (ix p)) := by
    intro r x hr hx
    have h0 := hk1 r x hr hx
    refine ⟨fun k hk h => Nat.lt_of_lt_of_le (h0.1 k hk h) (hic x), h0.2.1, fun a i ha hi => ?_⟩
    rw [h0.2.2 a i ha hi]
    constructor
    · rintro ⟨k, h1, h2, h3, h4⟩
      exact ⟨k, h1, h2, h3, by rw [hen x k h2 (h0.1 k h2 h3)]; exact h4⟩
    · rintro ⟨k, h1, h2, h3, h4⟩
      rw [hen x k h2 (h0.1 k h2 h3)] at h4
      exact ⟨k, h1, h2, h3, h4⟩
  have hk1'' := zr_k1L hk1' hp hp hn4 (show ic p < 8 by omega) (by rw [zn_us]; omega)
  rw [hep] at hk1''
  have hix := hb1.1 p
  have hlm := hnum.2.2.1.2
  refine ⟨hnum, ⟨hb1.1, zn_ub hb1.2.1 (by omega), hb1.2.2.1, zn_ub hb1.2.2.2 (by omega)⟩, ⟨hb2.1, hb2.2.1, hb2.2.2.1, zr_xkL hb2.2.2.2.1 (by omega), zl_lnb hb2.2.2.2.2.1 _ _ _, hb2.2.2.2.2.2⟩, hb3, fun q hq => ?_, hk1'', fun q k hq hk => ?_, hG, ⟨fun u hu => ?_, hiv.2⟩, ⟨hD.1, fun m z hm hz => ?_, hD.2.2.1, hD.2.2.2⟩, fun u hu hy he => ?_, ⟨fun q i hq hi => ?_, fun w hw h1 h2 => ?_, hch.2.2.1, hch.2.2.2⟩, fun q i z hq hi hz => ?_, hv, hd, hs, ⟨hm.1, fun r u w hr hu hw h1 h2 h3 h4 => ?_, hm.2.2⟩, hsm, hfr, hsv⟩
  · by_cases h : q = p
    · subst h
      rw [zn_us, zn_us, zn_us]
      refine ⟨rfl, fun h => absurd h (by decide), fun _ _ => ?_⟩
      rw [Nat.add_sub_cancel, hep]
      exact Nat.le_refl _
    · have h0 := hup q hq
      have hq7 := hb1.2.1 q
      rw [zn_un h, zn_un h, zn_un h]
      refine ⟨h0.1, h0.2.1, fun h1 h2 => ?_⟩
      rw [hen q (ic q - 1) (by omega) (by omega)]
      exact h0.2.2 h1 h2
  · by_cases h : q = p
    · subst h
      rw [zn_us] at hk
      apply zn_ut.mpr
      rcases Nat.lt_or_ge k (ic q) with h1 | h1
      · exact Or.inl (hk2 q k hq h1)
      · exact Or.inr (by omega)
    · rw [zn_un h] at hk
      exact zn_ut.mpr (Or.inl (hk2 q k hq hk))
  · have h0 := hiv.1 u hu
    have hq7 := hb1.2.1 (gp u)
    refine ⟨h0.1, Nat.le_trans h0.2.1 (hic _), fun h1 => ?_⟩
    rw [hen (gp u) (gi u - 1) (by omega) (by omega)]
    exact h0.2.2 h1
  · have h0 := hD.2.1 m z hm hz
    refine ⟨h0.1, h0.2.1, h0.2.2.1, fun k h1 h2 => ?_⟩
    obtain ⟨z', hz', hg', hc'⟩ := hD.2.2.1 m (gp z) hm h0.1
    have hl := zr_lz hb3.2.2.1 hc'
    have hzN := zg_lt hG _ _ (Nat.le_refl _) hm z' hz'
    have hu := hiv.1 z' (by omega)
    have h9 := hb3.2.1 z'
    rw [hl.1] at h2
    rw [hg'] at hu
    rw [hen (gp z) k (by omega) (by omega)]
    exact h0.2.2.2 k h1 (by rw [hl.1]; exact h2)
  · have h0 := hiv.1 u hu
    by_cases h : gp u = p
    · rw [h, zn_us] at he
      rw [h] at h0
      omega
    · rw [zn_un h] at hy he
      exact hcur u hu hy he
  · have h0 := hch.1 q i hq hi
    refine ⟨h0.1, h0.2.1, h0.2.2.1, fun k h1 h2 => ?_⟩
    have hq7 := hb1.2.1 q
    by_cases h : q = p
    · subst h
      rw [zn_us] at h2
      rcases Nat.lt_or_ge k (ic q) with h3 | h3
      · rw [hen q k (by omega) h3]; exact h0.2.2.2 k h1 h3
      · obtain rfl : k = ic q := by omega
        rw [hep]; exact hi
    · rw [zn_un h] at h2
      rw [hen q k (by omega) h2]; exact h0.2.2.2 k h1 h2
  · refine hch.2.1 w hw h1 (fun k h3 h4 => ?_)
    have hq7 := hb1.2.1 (gp w)
    have h5 := h2 k h3 (Nat.lt_of_lt_of_le h4 (hic _))
    rw [hen (gp w) k (by omega) h4] at h5
    exact h5
  · have h0 := hK q i z hq hi hz
    refine ⟨fun k hk => zn_ut.mpr (Or.inl (h0.1 k hk)), fun k h1 h2 h3 => ?_⟩
    have h4 := hch.1 q i hq hi
    have hzN := zg_lt hG _ _ (Nat.le_refl _) h4.1 z hz
    have hu := hiv.1 z (by omega)
    rcases zn_ut.mp h3 with h | h
    · have h5 := (hk1 q (gp z) hq hu.1).1 k h2 h
      rw [hen (gp z) k h2 h5]
      exact h0.2 k h1 h2 h
    · obtain ⟨rfl, h5, rfl⟩ : q = p ∧ gp z = p ∧ k = ic p := by omega
      rw [h5, hep]
      have h6 := hD.2.1 _ z h4.1 hz
      have h7 := hD.2.2.2 _ h4.1
      rw [h4.2.1] at h7
      have hl := zr_lz hb3.2.2.1 h7
      rw [h5, hl.2, h4.2.2.1] at h6
      exact Nat.le_trans h6.2.2.1 hi
  · refine hm.2.1 r u w hr hu hw h1 h2 h3 ⟨h4.1, h4.2.1, fun k h5 h6 => ?_⟩
    have h0 := hiv.1 u hu
    have hq7 := hb1.2.1 (gp u)
    have h7 := h4.2.2 k h5 h6
    rw [hen (gp u) k (by omega) (by omega)] at h7
    exact h7
end
end
section
/-! a new interval keeps the relation -/
def zr_P (P : Nat → Nat → Bool) (N a b : Nat) : Nat → Nat → Bool := fun m z => if m = N + 1 then (decide (z = N) || (P a z || P b z)) else P m z
def zr_DD (D : Nat → Nat → Nat) (N p l a b : Nat) : Nat → Nat → Nat := fun m x => if m = N + 1 then (if x = p then l else if D a x ≤ D b x then D b x else D a x) else D m x
section
variable {n sc lm sv rl bg : Nat} {xup xs gs gm yp yup kn fl : Nat → Bool} {ix ic st xo xp xt en xk xl xm gp gi gx gq gf go ch to sf : Nat → Nat} {un rp dc xv xrs xrr xra xss sr sa op ol ov gv gr ga : Nat → Int32}
variable {P : Nat → Nat → Bool} {D : Nat → Nat → Nat} {N m r v p a b l s : Nat}
theorem zr_Po {z : Nat} (h : m ≤ N) : zr_P P N a b m z = P m z := if_neg (by omega)
theorem zr_Do {x : Nat} (h : m ≤ N) : zr_DD D N p l a b m x = D m x := if_neg (by omega)
theorem zr_Pn {z : Nat} : zr_P P N a b (N + 1) z = true ↔ z = N ∨ P a z = true ∨ P b z = true := by
  unfold zr_P
  rw [if_pos rfl, Bool.or_eq_true, Bool.or_eq_true, decide_eq_true_eq]
theorem zr_Dp : zr_DD D N p l a b (N + 1) p = l := by
  unfold zr_DD
  rw [if_pos rfl, if_pos rfl]
theorem zr_Dx {x : Nat} (h : x ≠ p) : zr_DD D N p l a b (N + 1) x = if D a x ≤ D b x then D b x else D a x := by
  unfold zr_DD
  rw [if_pos rfl, if_neg h]
theorem zr_gG (G : zg_G N gq gf P) (ha : a ≤ N) (hb : b ≤ N) : zg_G (N + 1) (zc_u gq N a) (zc_u gf N b) (zr_P P N a b) := by
  refine ⟨fun z => by rw [zr_Po (Nat.zero_le _)]; exact G.1 z, fun u hu => ?_, fun u hu z => ?_⟩
  · by_cases h : u = N
    · subst h; rw [zn_us, zn_us]; exact ⟨ha, hb⟩
    · rw [zn_un h, zn_un h]; exact G.2.1 u (by omega)
  · by_cases h : u = N
    · subst h
      rw [zr_Pn, zn_us, zn_us, zr_Po ha, zr_Po hb]
    · have h1 := G.2.1 u (by omega)
      rw [zn_un h, zn_un h, zr_Po (by omega), zr_Po (by omega), zr_Po (by omega)]
      exact G.2.2 u (by omega) z
/-- what p must know of a past before it may take it -/
def zr_ok (p : Nat) (gp gi gx en : Nat → Nat) (kn : Nat → Bool) (P : Nat → Nat → Bool) (m : Nat) : Prop := ∀ z, P m z = true → (∀ k, k < gi z → kn (p * 32 + gp z * 8 + k) = true) ∧ (∀ k, gi z ≤ k → k < 8 → kn (p * 32 + gp z * 8 + k) = true → gx z ≤ en (gp z * 8 + k))
/-- an earlier label against the new interval's -/
theorem zr_own {c : Nat} (hn4 : n ≤ 4) (hup : zr_up n xup yup ic ix en) (hb1 : ∀ j, ic j ≤ 7) (hgx : ∀ j, gx j ≤ 12) (hk2 : zr_k2 n ic kn) (G : zg_G N gq gf P) (hiv : zr_iv n N gp gi gx gq gf ic en) (hcur : zr_cur N yup ic ix gp gi gx) (hD : zr_D n N gp gi gx en P D) (hm : m ≤ N) (hok : zr_ok p gp gi gx en kn P m) (hp : p < n) (hy : yup p = true) (hc : D m p = c) (h0 : c ≠ 0) : zr_an en p ((c - 1) / 16) ((c - 1) % 16) (ic p) (ix p + 1) := by
  subst hc
  obtain ⟨z, hz, hg, hcz⟩ := hD.2.2.1 m p hm h0
  have hl := zr_lz hgx hcz
  have hzN := zg_lt G _ _ (Nat.le_refl _) hm z hz
  have hu := hiv.1 z (by omega)
  have ho := hok z hz
  have h7 := hb1 p
  rw [hg] at hu ho
  have hks : ∀ k, gi z ≤ k → k < ic p → gx z ≤ en (p * 8 + k) := fun k h1 h2 => ho.2 k h1 (by omega) (hk2 p k hp h2)
  rw [hl.1, hl.2]
  refine ⟨hu.2.1, ?_, hks⟩
  by_cases he : gi z = ic p
  · have := hcur z (by omega) (by rw [hg]; exact hy) (by rw [hg]; exact he)
    rw [hg] at this
    omega
  · have h1 := hks (ic p - 1) (by omega) (by omega)
    have h2 := (hup p hp).2.2 hy (by omega)
    omega
/-- two labels of x that p may take lie on one chain -/
theorem zr_cmp {x m' : Nat} (hn4 : n ≤ 4) (hb3 : zr_b3 gp gi gx go ch to) (G : zg_G N gq gf P) (hiv : zr_iv n N gp gi gx gq gf ic en) (hD : zr_D n N gp gi gx en P D) (hm : m ≤ N) (hm' : m' ≤ N) (hok : zr_ok p gp gi gx en kn P m) (hok' : zr_ok p gp gi gx en kn P m') (h0 : D m x ≠ 0) (hle : D m x ≤ D m' x) : zr_an en x ((D m x - 1) / 16) ((D m x - 1) % 16) ((D m' x - 1) / 16) ((D m' x - 1) % 16) := by
  obtain ⟨z, hz, hg, hcz⟩ := hD.2.2.1 m x hm h0
  obtain ⟨z', hz', hg', hcz'⟩ := hD.2.2.1 m' x hm' (by omega)
  have hl := zr_lz hb3.2.2.1 hcz
  have hl' := zr_lz hb3.2.2.1 hcz'
  have h12 := hb3.2.2.1 z
  have h12' := hb3.2.2.1 z'
  have h7' := hb3.2.1 z'
  have ho := hok z hz
  have ho' := hok' z' hz'
  have hzN := zg_lt G _ _ (Nat.le_refl _) hm' z' hz'
  have hu := hiv.1 z' (by omega)
  rw [hg] at ho
  rw [hg'] at ho' hu
  have hks : ∀ k, gi z ≤ k → k < gi z' → gx z ≤ en (x * 8 + k) := fun k h1 h2 => ho.2 k h1 (by omega) (ho'.1 k h2)
  rw [hl.1, hl.2, hl'.1, hl'.2]
  refine ⟨by omega, ?_, hks⟩
  by_cases he : gi z = gi z'
  · omega
  · have h1 := hks (gi z' - 1) (by omega) (by omega)
    have h2 := hu.2.2 (by omega)
    omega
theorem zr_gD (hn4 : n ≤ 4) (hb3 : zr_b3 gp gi gx go ch to) (hup : zr_up n xup yup ic ix en) (hb1 : ∀ j, ic j ≤ 7) (hk2 : zr_k2 n ic kn) (G : zg_G N gq gf P) (hiv : zr_iv n N gp gi gx gq gf ic en) (hcur : zr_cur N yup ic ix gp gi gx) (hD : zr_D n N gp gi gx en P D) (ha : a ≤ N) (hb : b ≤ N) (hoa : zr_ok p gp gi gx en kn P a) (hob : zr_ok p gp gi gx en kn P b) (hp : p < n) (hy : yup p = true) (hi : ix p < 12) : zr_D n (N + 1) (zc_u gp N p) (zc_u gi N (ic p)) (zc_u gx N (ix p + 1)) en (zr_P P N a b) (zr_DD D N p (16 * ic p + (ix p + 1) + 1) a b) := by
  have hlp : (16 * ic p + (ix p + 1) + 1 - 1) / 16 = ic p ∧ (16 * ic p + (ix p + 1) + 1 - 1) % 16 = ix p + 1 := by omega
  have hlab : ∀ m x, (m = a ∨ m = b) → D m x ≠ 0 → zr_DD D N p (16 * ic p + (ix p + 1) + 1) a b (N + 1) x ≠ 0 ∧ zr_an en x ((D m x - 1) / 16) ((D m x - 1) % 16) ((zr_DD D N p (16 * ic p + (ix p + 1) + 1) a b (N + 1) x - 1) / 16) ((zr_DD D N p (16 * ic p + (ix p + 1) + 1) a b (N + 1) x - 1) % 16) := by
    intro m x hm h0
    by_cases hx : x = p
    · subst hx
      rw [zr_Dp, hlp.1, hlp.2]
      refine ⟨by omega, ?_⟩
      rcases hm with rfl | rfl
      · exact zr_own hn4 hup hb1 hb3.2.2.1 hk2 G hiv hcur hD ha hoa hp hy rfl h0
      · exact zr_own hn4 hup hb1 hb3.2.2.1 hk2 G hiv hcur hD hb hob hp hy rfl h0
    · rw [zr_Dx hx]
      by_cases hle : D a x ≤ D b x
      · rw [if_pos hle]
        rcases hm with rfl | rfl
        · exact ⟨by omega, zr_cmp hn4 hb3 G hiv hD ha hb hoa hob h0 hle⟩
        · exact ⟨h0, zr_cmp hn4 hb3 G hiv hD hb hb hob hob h0 (Nat.le_refl _)⟩
      · rw [if_neg hle]
        rcases hm with rfl | rfl
        · exact ⟨h0, zr_cmp hn4 hb3 G hiv hD ha ha hoa hoa h0 (Nat.le_refl _)⟩
        · exact ⟨by omega, zr_cmp hn4 hb3 G hiv hD hb ha hob hoa h0 (by omega)⟩
  have hst : ∀ m z, (m = a ∨ m = b) → P m z = true → zr_DD D N p (16 * ic p + (ix p + 1) + 1) a b (N + 1) (gp z) ≠ 0 ∧ zr_an en (gp z) (gi z) (gx z) ((zr_DD D N p (16 * ic p + (ix p + 1) + 1) a b (N + 1) (gp z) - 1) / 16) ((zr_DD D N p (16 * ic p + (ix p + 1) + 1) a b (N + 1) (gp z) - 1) % 16) := by
    intro m z hm hz
    have hmN : m ≤ N := by rcases hm with rfl | rfl <;> assumption
    have h1 := hD.2.1 m z hmN hz
    have h2 := hlab m (gp z) hm h1.1
    exact ⟨h2.1, zr_anT h1.2 h2.2⟩
  refine ⟨fun x => by rw [zr_Do (Nat.zero_le _)]; exact hD.1 x, fun m z hm hz => ?_, fun m x hm h0 => ?_, fun u hu => ?_⟩
  · by_cases h : m = N + 1
    · subst h
      rcases zr_Pn.mp hz with h1 | h1 | h1
      · subst h1
        rw [zn_us, zn_us, zn_us, zr_Dp, hlp.1, hlp.2]
        exact ⟨by omega, Nat.le_refl _, Nat.le_refl _, fun k h2 h3 => absurd h3 (by omega)⟩
      · have hzN := zg_lt G _ _ (Nat.le_refl _) ha z h1
        rw [zn_un (by omega), zn_un (by omega), zn_un (by omega)]
        exact hst a z (Or.inl rfl) h1
      · have hzN := zg_lt G _ _ (Nat.le_refl _) hb z h1
        rw [zn_un (by omega), zn_un (by omega), zn_un (by omega)]
        exact hst b z (Or.inr rfl) h1
    · rw [zr_Po (by omega)] at hz
      have hzN := zg_lt G _ _ (Nat.le_refl _) (show m ≤ N by omega) z hz
      rw [zn_un (by omega), zn_un (by omega), zn_un (by omega), zr_Do (by omega)]
      exact hD.2.1 m z (by omega) hz
  · by_cases h : m = N + 1
    · subst h
      by_cases hx : x = p
      · subst hx
        refine ⟨N, zr_Pn.mpr (Or.inl rfl), zn_us, ?_⟩
        rw [zr_Dp, zn_us, zn_us]
      · rw [zr_Dx hx] at h0 ⊢
        by_cases hle : D a x ≤ D b x
        · rw [if_pos hle] at h0 ⊢
          obtain ⟨z, hz, hg, hcz⟩ := hD.2.2.1 b x hb h0
          have hzN := zg_lt G _ _ (Nat.le_refl _) hb z hz
          exact ⟨z, zr_Pn.mpr (Or.inr (Or.inr hz)), by rw [zn_un (by omega)]; exact hg, by rw [zn_un (by omega), zn_un (by omega)]; exact hcz⟩
        · rw [if_neg hle] at h0 ⊢
          obtain ⟨z, hz, hg, hcz⟩ := hD.2.2.1 a x ha h0
          have hzN := zg_lt G _ _ (Nat.le_refl _) ha z hz
          exact ⟨z, zr_Pn.mpr (Or.inr (Or.inl hz)), by rw [zn_un (by omega)]; exact hg, by rw [zn_un (by omega), zn_un (by omega)]; exact hcz⟩
    · rw [zr_Do (by omega)] at h0 ⊢
      obtain ⟨z, hz, hg, hcz⟩ := hD.2.2.1 m x (by omega) h0
      have hzN := zg_lt G _ _ (Nat.le_refl _) (show m ≤ N by omega) z hz
      exact ⟨z, by rw [zr_Po (by omega)]; exact hz, by rw [zn_un (by omega)]; exact hg, by rw [zn_un (by omega), zn_un (by omega)]; exact hcz⟩
  · by_cases h : u = N
    · subst h
      rw [zn_us, zn_us, zn_us, zr_Dp]
    · rw [zn_un h, zn_un h, zn_un h, zr_Do (by omega)]
      exact hD.2.2.2 u (by omega)
theorem zr_gch (hn4 : n ≤ 4) (hb1 : ∀ j, ic j ≤ 7) (hix : ∀ j, ix j ≤ 12) (hup : zr_up n xup yup ic ix en) (hiv : zr_iv n N gp gi gx gq gf ic en) (hcur : zr_cur N yup ic ix gp gi gx) (hc : zr_ch n N ix ic ch en gp gi gx P) (hp : p < n) (hy : yup p = true) (hi : ix p < 12) (hnN : n ≤ N) : zr_ch n (N + 1) (zc_u ix p (ix p + 1)) ic (zc_u ch (p * 16 + (ix p + 1)) N) en (zc_u gp N p) (zc_u gi N (ic p)) (zc_u gx N (ix p + 1)) (zr_P P N (ch (p * 16 + ix p) + 1) b) := by
  have hold : ∀ q i, q < n → i ≤ zc_u ix p (ix p + 1) q → (q = p ∧ i = ix p + 1) ∨ (i ≤ ix q ∧ zc_u ch (p * 16 + (ix p + 1)) N (q * 16 + i) = ch (q * 16 + i)) := by
    intro q i hq hiq
    by_cases h : q = p
    · subst h
      rw [zn_us] at hiq
      by_cases h2 : i = ix q + 1
      · exact Or.inl ⟨rfl, h2⟩
      · exact Or.inr ⟨by omega, zn_un (by omega)⟩
    · rw [zn_un h] at hiq
      have := hix q
      exact Or.inr ⟨hiq, zn_un (by omega)⟩
  refine ⟨fun q i hq hiq => ?_, fun w hw h1 h2 => ?_, fun q i j z hq hij hj hz => ?_, fun q hq => ?_⟩
  · rcases hold q i hq hiq with ⟨rfl, rfl⟩ | ⟨h1, h2⟩
    · rw [zn_us, zn_us, zn_us, zn_us]
      exact ⟨by omega, rfl, rfl, fun k h3 h4 => absurd h4 (by omega)⟩
    · have h0 := hc.1 q i hq h1
      rw [h2, zn_un (by omega), zn_un (by omega), zn_un (by omega)]
      exact ⟨by omega, h0.2⟩
  · by_cases h : w = N
    · subst h
      rw [zn_us, zn_us, zn_us]
    · rw [zn_un h] at h1 h2 ⊢
      rw [zn_un h] at h1 h2 ⊢
      rw [zn_un h] at h2
      have hu := hiv.1 w (by omega)
      have h3 : gx w ≤ ix (gp w) := by
        by_cases hg : gp w = p
        · rw [hg, zn_us] at h1
          rw [hg] at hu h2 ⊢
          by_cases he : gi w = ic p
          · have := hcur w (by omega) (by rw [hg]; exact hy) (by rw [hg]; exact he)
            rw [hg] at this
            exact this
          · have h4 := h2 (ic p - 1) (by omega) (by omega)
            have h5 := (hup p hp).2.2 hy (by omega)
            omega
        · rw [zn_un hg] at h1; exact h1
      have h6 := hc.2.1 w (by omega) h3 h2
      rw [zn_un ?_]
      · exact h6
      · intro h7
        have h8 := hix (gp w)
        obtain ⟨h9, h10⟩ : gp w = p ∧ gx w = ix p + 1 := by omega
        rw [h9] at h3
        omega
  · rcases hold q j hq hj with ⟨rfl, rfl⟩ | ⟨h1, h2⟩
    · rw [zn_us]
      rcases hold q i hq (by rw [zn_us]; exact hij) with ⟨_, rfl⟩ | ⟨h1, h2⟩
      · rw [zn_us] at hz; exact hz
      · have h0 := hc.1 q i hq h1
        rw [h2, zr_Po (by omega)] at hz
        exact zr_Pn.mpr (Or.inr (Or.inl (hc.2.2.1 q i (ix q) z hq h1 (Nat.le_refl _) hz)))
    · have h4 : i ≤ ix q := by omega
      have h5 : zc_u ch (p * 16 + (ix p + 1)) N (q * 16 + i) = ch (q * 16 + i) := by
        apply zn_un
        have := hix q
        intro h6
        obtain ⟨h7, h8⟩ : q = p ∧ i = ix p + 1 := by omega
        rw [h7] at h4
        omega
      have h0 := hc.1 q i hq h4
      have h0' := hc.1 q j hq h1
      rw [h5, zr_Po (by omega)] at hz
      rw [h2, zr_Po (by omega)]
      exact hc.2.2.1 q i j z hq hij h1 hz
  · rw [zn_un (by omega)]
    exact hc.2.2.2 q hq
end
end
section
/-! a new interval, its output, its message: the whole relation -/
section
variable {n sc lm sv rl bg : Nat} {xup xs gs gm yp yup kn fl : Nat → Bool} {ix ic st xo xp xt en xk xl xm gp gi gx gq gf go ch to sf : Nat → Nat} {un rp dc xv xrs xrr xra xss sr sa op ol ov gv gr ga : Nat → Int32}
variable {P : Nat → Nat → Bool} {D : Nat → Nat → Nat} {N m r v p a b l s : Nat}
theorem zr_zcs {N p : Nat} (h : m ≤ N) : zc_s (zc_u gp N p) m = zc_s gp m := by
  cases m with
  | zero => rfl
  | succ u =>
    show nI (zc_u gp N p u) = nI (gp u)
    rw [zn_un (by omega)]
theorem zr_okK (hK : zr_K n ix ch gp gi gx en kn P) (hp : p < n) {i : Nat} (hi : i ≤ ix p) : zr_ok p gp gi gx en kn P (ch (p * 16 + i) + 1) := fun z hz => hK p i z hp hi hz
theorem zr_okM (hN : N ≤ 124) (hb3 : ∀ j, gi j ≤ 7) (G : zg_G N gq gf P) (hm : m ≤ N) (h1 : zq_yor P gp gi gx en kn m p = false) (h2 : zq_ywt P gp gi kn m p = false) : zr_ok p gp gi gx en kn P m := by
  intro z hz
  have hzN := zg_lt G _ _ (Nat.le_refl _) hm z hz
  have h7 := hb3 z
  have e1 := (zf_ex_f _ _ _).mp h1 z (by omega) (by omega)
  have e2 := (zf_ex_f _ _ _).mp h2 z (by omega) (by omega)
  rw [hz, Bool.true_and] at e1 e2
  refine ⟨fun k hk => ?_, fun k h3 h4 h5 => ?_⟩
  · have := (zf_ex_f _ _ _).mp e2 k (by omega) (by omega)
    rw [Bool.not_eq_false'] at this
    exact this
  · have h6 := (zf_ex_f _ _ _).mp e1 k h3 (by omega)
    unfold zq_lk at h6
    rw [← Nat.add_assoc, h5, Bool.true_and, decide_eq_false_iff_not] at h6
    omega
theorem zr_begF {w : Int32} (F : zr_F n sc lm sv rl bg ix ic st en xo xp xt xk xl xm gp gi gx go ch to gq gf sf xup yup kn fl xs gs gm gv gr ga xv xrs xrr xra xss P D) (hs : s < sc) (hp : xt s = p + 1) (hy : yup p = true) (hol : zr_ok p gp gi gx en kn P (sf s)) (hl : ix p < lm) (hbg : bg < 120) : zr_F n sc lm sv rl (bg + 1) (zc_u ix p (ix p + 1)) ic st en (zc_u xo (p * 16 + (ix p + 1)) 0) (zc_u (zv_mg (zv_cp xp (128 + s) (64 + (p * 16 + (ix p + 1))) 4) (p * 16 + ix p) (64 + (p * 16 + (ix p + 1))) (p * 16 + (ix p + 1)) 4) ((p * 16 + (ix p + 1)) * 4 + p) (16 * ic p + (ix p + 1) + 1)) (zc_u xt s 0) xk xl xm (zc_u gp (n + bg) p) (zc_u gi (n + bg) (ic p)) (zc_u gx (n + bg) (ix p + 1)) go (zc_u ch (p * 16 + (ix p + 1)) (n + bg)) to (zc_u gq (n + bg) (ch (p * 16 + ix p) + 1)) (zc_u gf (n + bg) (sf s)) sf xup yup kn (zc_u fl s false) (zc_u xs (p * 16 + (ix p + 1)) false) gs gm (upd gv (n + bg) w) (upd gr (n + bg) (sr s)) (upd ga (n + bg) (sa s)) (upd xv (p * 16 + (ix p + 1)) w) (upd xrs (p * 16 + (ix p + 1)) (xss s)) (upd xrr (p * 16 + (ix p + 1)) (sr s)) (upd xra (p * 16 + (ix p + 1)) (sa s)) xss (zr_P P (n + bg) (ch (p * 16 + ix p) + 1) (sf s)) (zr_DD D (n + bg) p (16 * ic p + (ix p + 1) + 1) (ch (p * 16 + ix p) + 1) (sf s)) := by
  obtain ⟨hnum, hb1, hb2, hb3, hup, hk1, hk2, hG, hiv, hD, hcur, hch, hK, hv, hd, hsl, hm, hsm, hfr, hsv⟩ := F
  obtain ⟨hn, hscn, hlm, hsvn, hrl, hbgn⟩ := hnum
  have hsl0 := (hsl s hs).2 (by omega)
  have hpt : p = to s := by omega
  have hpn : p < n := by rw [hpt]; exact hsl0.2.1
  have hix12 : ∀ j, ix j ≤ 12 := fun j => Nat.le_trans (hb1.1 j) hlm.2
  have hi12 : ix p < 12 := by omega
  have hchp := hch.1 p (ix p) hpn (Nat.le_refl _)
  have hA : (ch (p * 16 + ix p) + 1) ≤ n + bg := hchp.1
  have hB : sf s ≤ n + bg := hsl0.2.2.1
  have hoa := zr_okK (i := ix p) hK hpn (Nat.le_refl _)
  have hG' := zr_gG hG hA hB
  have hD' := zr_gD (a := (ch (p * 16 + ix p) + 1)) (b := sf s) hn.2 hb3 hup hb1.2.1 hk2 hG hiv hcur hD hA hB hoa hol hpn hy hi12
  have hch' := zr_gch (b := sf s) hn.2 hb1.2.1 hix12 hup hiv hcur hch hpn hy hi12 (by omega)
  have hic := hb1.2.1 p
  have hold : ∀ q i, q < n → i ≤ zc_u ix p (ix p + 1) q → (q = p ∧ i = ix p + 1) ∨ (i ≤ ix q ∧ q * 16 + i ≠ (p * 16 + (ix p + 1))) := by
    intro q i hq hiq
    by_cases h : q = p
    · subst h
      rw [zn_us] at hiq
      by_cases h2 : i = ix q + 1
      · exact Or.inl ⟨rfl, h2⟩
      · exact Or.inr ⟨by omega, by omega⟩
    · rw [zn_un h] at hiq
      have := hix12 q
      exact Or.inr ⟨hiq, by omega⟩
  have hxpo : ∀ c x, x < 4 → c ≠ (p * 16 + (ix p + 1)) → c ≠ 64 + (p * 16 + (ix p + 1)) → (zc_u (zv_mg (zv_cp xp (128 + s) (64 + (p * 16 + (ix p + 1))) 4) (p * 16 + ix p) (64 + (p * 16 + (ix p + 1))) (p * 16 + (ix p + 1)) 4) ((p * 16 + (ix p + 1)) * 4 + p) (16 * ic p + (ix p + 1) + 1)) (c * 4 + x) = xp (c * 4 + x) := by
    intro c x hx h1 h2
    rw [zn_un (by omega), zv_mg_o _ hx h1, zv_cp_o _ hx h2]
  refine ⟨⟨hn, hscn, hlm, hsvn, hrl, by omega⟩, ⟨zn_ub hb1.1 (by omega), hb1.2.1, fun j => ?_, hb1.2.2.2⟩, ⟨zn_ub hb2.1 (by omega), zn_ub (zv_mg_b (zv_cp_b hb2.2.1 _ _ _) _ _ _ _) (by omega), zn_ub hb2.2.2.1 (by omega), hb2.2.2.2⟩, ⟨fun j => ?_, zn_ub hb3.2.1 hic, zn_ub hb3.2.2.1 (by omega), hb3.2.2.2.1, fun j => ?_, hb3.2.2.2.2.2⟩, fun q hq => ?_, hk1, hk2, hG', ⟨fun u hu => ?_, fun u hu => ?_⟩, hD', fun u hu hyu he => ?_, hch', fun q i z hq hiq hz => ?_, fun q i x hq hiq hx => ?_, fun q i hq hiq => ?_, fun s' hs' => ?_, ⟨fun r u hr hu hg => ?_, fun r u w hr hu hw h1 h2 h3 h4 => ?_, fun r x a hr hx hxr ha h0 => ?_⟩, fun q i hq hiq => ?_, fun u hu => hfr u (by omega), fun q hq => ?_⟩
  · -- st ≤ ix
    have := hb1.2.2.1 j
    by_cases h : j = p
    · subst h; rw [zn_us]; omega
    · rw [zn_un h]; exact this
  · -- gp < 4
    by_cases h : j = n + bg
    · subst h; rw [zn_us]; omega
    · rw [zn_un h]; exact hb3.1 j
  · -- ch < 124
    by_cases h : j = (p * 16 + (ix p + 1))
    · subst h; rw [zn_us]; omega
    · rw [zn_un h]; exact hb3.2.2.2.2.1 j
  · -- up
    have h0 := hup q hq
    refine ⟨h0.1, h0.2.1, fun h1 h2 => ?_⟩
    have h3 := h0.2.2 h1 h2
    by_cases h : q = p
    · subst h; rw [zn_us]; omega
    · rw [zn_un h]; exact h3
  · -- iv 1
    by_cases h : u = n + bg
    · subst h
      rw [zn_us, zn_us, zn_us]
      refine ⟨hpn, Nat.le_refl _, fun h1 => ?_⟩
      have := (hup p hpn).2.2 hy h1
      omega
    · rw [zn_un h, zn_un h, zn_un h]
      exact hiv.1 u (by omega)
  · -- iv 2
    rw [zn_un (by omega), zn_un (by omega), zn_un (by omega)]
    exact hiv.2 u hu
  · -- cur
    by_cases h : u = n + bg
    · subst h
      rw [zn_us, zn_us, zn_us]
      exact Nat.le_refl _
    · rw [zn_un h] at hyu he ⊢
      rw [zn_un h] at he ⊢
      have h1 := hcur u (by omega) hyu he
      by_cases h2 : gp u = p
      · rw [h2] at h1 ⊢; rw [zn_us]; omega
      · rw [zn_un h2]; exact h1
  · -- K
    rcases hold q i hq hiq with ⟨rfl, rfl⟩ | ⟨h1, h2⟩
    · rw [zn_us] at hz
      rcases zr_Pn.mp hz with h3 | h3 | h3
      · subst h3
        rw [zn_us, zn_us, zn_us]
        exact ⟨fun k hk => hk2 q k hq hk, fun k h4 h5 h6 => absurd ((hk1 q q hq hq).1 k h5 h6) (by omega)⟩
      · have hzN := zg_lt hG _ _ (Nat.le_refl _) hA z h3
        rw [zn_un (by omega), zn_un (by omega), zn_un (by omega)]
        exact hoa z h3
      · have hzN := zg_lt hG _ _ (Nat.le_refl _) hB z h3
        rw [zn_un (by omega), zn_un (by omega), zn_un (by omega)]
        exact hol z h3
    · have h0 := hch.1 q i hq h1
      rw [zn_un h2, zr_Po (by omega)] at hz
      have hzN := zg_lt hG _ _ (Nat.le_refl _) h0.1 z hz
      rw [zn_un (by omega), zn_un (by omega), zn_un (by omega)]
      exact hK q i z hq h1 hz
  · -- v
    rcases hold q i hq hiq with ⟨rfl, rfl⟩ | ⟨h1, h2⟩
    · rw [zn_us, zn_us, zr_Do hB]
      refine ⟨?_, fun _ => ?_⟩
      · by_cases hxq : x = q
        · subst hxq
          rw [zn_us, zr_Dp]
        · rw [zn_un (by omega), zv_mg_i _ _ _ _ _ hx, zr_Dx hxq, zv_cp_i _ _ _ _ hx, zv_cp_o _ hx (by omega), (hv q (ix q) x hq (Nat.le_refl _) hx).1, hsl0.2.2.2.2 x hx]
      · rw [zn_un (by omega), zv_mg_o _ hx (by omega), zv_cp_i _ _ _ _ hx, hsl0.2.2.2.2 x hx]
    · have h0 := hch.1 q i hq h1
      have h3 := hix12 q
      have h4 := hG.2.1 _ h0.1
      rw [zn_un h2, zr_Do (by omega), hxpo _ _ hx h2 (by omega), hxpo _ _ hx (by omega) (by omega), zn_un (by omega), zr_Do (by omega)]
      exact hv q i x hq h1 hx
  · -- d
    rcases hold q i hq hiq with ⟨rfl, rfl⟩ | ⟨h1, h2⟩
    · rw [zn_us, pk_us, pk_us, pk_us, pk_us, pk_us, pk_us, pk_us, zn_us, zn_us, zn_us, if_neg (by omega), zr_zcs hB]
      have h3 := hfr (n + bg) (Nat.le_refl _)
      exact ⟨rfl, h3.2.1.symm, h3.1.symm, rfl, rfl, hsl0.2.2.2.1⟩
    · have h0 := hch.1 q i hq h1
      have h4 := hG.2.1 _ h0.1
      rw [zn_un h2, pk_un h2, pk_un (by omega), pk_un h2, pk_un (by omega), pk_un h2, pk_un (by omega), pk_un h2, zn_un h2, zn_un h2, zn_un (by omega), zr_zcs (by omega)]
      exact hd q i hq h1
  · -- s
    by_cases h : s' = s
    · subst h
      rw [zn_us, zn_us]
      exact ⟨rfl, fun h => absurd rfl h⟩
    · have h0 := hsl s' hs'
      rw [zn_un h, zn_un h]
      refine ⟨h0.1, fun h1 => ?_⟩
      have h2 := h0.2 h1
      rw [zr_zcs h2.2.2.1]
      refine ⟨h2.1, h2.2.1, by omega, h2.2.2.2.1, fun x hx => ?_⟩
      rw [hxpo _ _ hx (by omega) (by omega), zr_Do h2.2.2.1]
      exact h2.2.2.2.2 x hx
  · -- m 1
    by_cases h : u = n + bg
    · subst h
      rw [zn_us] at hg ⊢
      rw [zn_us, zn_us, (hfr _ (Nat.le_refl _)).2.2 r (by omega)]
      refine ⟨fun h1 => absurd h1 (by decide), fun h1 => ?_⟩
      obtain ⟨z, hz, hgz, hiz, hcz⟩ := hm.2.2 r p (ic p) hr hpn hg (by omega) (by omega)
      have h2 := hcur z hz (by rw [hgz]; exact hy) (by rw [hgz]; exact hiz)
      rw [hgz] at h2
      omega
    · rw [zn_un h] at hg ⊢
      rw [zn_un h, zn_un h]
      exact hm.1 r u hr (by omega) hg
  · -- m 2
    have hun : u ≠ n + bg := by
      intro h
      subst h
      rw [(hfr _ (Nat.le_refl _)).2.2 r (by omega)] at h3
      exact absurd h3 (by decide)
    rw [zn_un hun] at h1 h2 h4
    rw [zn_un hun, zn_un hun] at h4
    by_cases h : w = n + bg
    · subst h
      rw [zn_us] at h1
      rw [zn_us, zn_us] at h4
      have h5 := hiv.1 u (by omega)
      have h6 := hcur u (by omega) (by rw [← h1]; exact hy) (by have := h4.1; rw [← h1] at h5 ⊢; omega)
      have h7 := h4.2.1
      rw [← h1] at h6
      omega
    · rw [zn_un h] at h1
      rw [zn_un h, zn_un h] at h4
      exact hm.2.1 r u w hr (by omega) (by omega) h1 h2 h3 h4
  · -- m 3
    obtain ⟨u, hu, h1, h2, h3⟩ := hm.2.2 r x a hr hx hxr ha h0
    exact ⟨u, by omega, by rw [zn_un (by omega)]; exact h1, by rw [zn_un (by omega)]; exact h2, by rw [zn_un (by omega)]; exact h3⟩
  · -- sm
    rcases hold q i hq hiq with ⟨rfl, rfl⟩ | ⟨h1, h2⟩
    · rw [zn_us, (hfr _ (Nat.le_refl _)).2.2 q (by omega)]
      have := hb1.2.2.1 q
      exact ⟨fun h => absurd h (by decide), fun h => absurd h (by omega)⟩
    · rw [zn_un h2]
      exact hsm q i hq h1
  · -- sv
    by_cases h : q = p
    · subst h
      rw [zn_us, zf_cnt_add, zf_cnt_one, show 1 + ix q = ix q + 1 by omega, zn_us, if_neg (by decide)]
      rw [zf_cnt_cg (q' := fun j => xs (q * 16 + j)) _ _ (fun j h1 h2 => zn_un (by omega))]
      exact hsv q hq
    · rw [zn_un h]
      have h3 := hix12 q
      rw [zf_cnt_cg (q' := fun j => xs (q * 16 + j)) _ _ (fun j h1 h2 => zn_un (by omega))]
      exact hsv q hq
/-- the output of the chain's interval i of p becomes held or released -/
theorem zr_outF {i e : Nat} (F : zr_F n sc lm sv rl bg ix ic st en xo xp xt xk xl xm gp gi gx go ch to gq gf sf xup yup kn fl xs gs gm gv gr ga xv xrs xrr xra xss P D) (hp : p < n) (hi : i ≤ ix p) (he : e ≤ 2) : zr_F n sc lm sv rl bg ix ic st en (zc_u xo (p * 16 + i) e) xp xt xk xl xm gp gi gx (zc_u go (ch (p * 16 + i)) e) ch to gq gf sf xup yup kn fl xs gs gm gv gr ga xv xrs xrr xra xss P D := by
  obtain ⟨hnum, hb1, hb2, hb3, hup, hk1, hk2, hG, hiv, hD, hcur, hch, hK, hv, hd, hsl, hm, hsm, hfr, hsv⟩ := F
  have hix12 : ∀ j, ix j ≤ 12 := fun j => Nat.le_trans (hb1.1 j) hnum.2.2.1.2
  have h0 := hch.1 p i hp hi
  refine ⟨hnum, hb1, ⟨zn_ub hb2.1 he, hb2.2⟩, ⟨hb3.1, hb3.2.1, hb3.2.2.1, zn_ub hb3.2.2.2.1 he, hb3.2.2.2.2⟩, hup, hk1, hk2, hG, hiv, hD, hcur, hch, hK, hv, fun q j hq hj => ?_, hsl, hm, hsm, fun u hu => ?_, hsv⟩
  · have h1 := hd q j hq hj
    refine ⟨h1.1, h1.2.1, ?_, h1.2.2.2⟩
    have h2 := hch.1 q j hq hj
    by_cases h : q = p ∧ j = i
    · obtain ⟨rfl, rfl⟩ := h
      rw [zn_us, zn_us]
    · have h3 := hix12 q
      have h4 := hix12 p
      rw [zn_un (by omega), zn_un ?_]
      · exact h1.2.2.1
      · intro h5
        rw [h5] at h2
        exact h ⟨by rw [← h2.2.1, h0.2.1], by rw [← h2.2.2.1, h0.2.2.1]⟩
  · have h1 := hfr u hu
    rw [zn_un (by omega)]
    exact h1
/-- a message comes into slot s -/
theorem zr_putF {t : Nat} {xp' : Nat → Nat} (F : zr_F n sc lm sv rl bg ix ic st en xo xp xt xk xl xm gp gi gx go ch to gq gf sf xup yup kn fl xs gs gm gv gr ga xv xrs xrr xra xss P D) (ht : t < n) (hm : m ≤ n + bg) (hs : s < sc) (hb : ∀ j, xp' j ≤ 128) (h1 : ∀ x, x < 4 → xp' ((128 + s) * 4 + x) = D m x) (h2 : ∀ c x, x < 4 → c ≠ 128 + s → xp' (c * 4 + x) = xp (c * 4 + x)) : zr_F n sc lm sv rl bg ix ic st en xo (xp') (zc_u xt s (t + 1)) xk xl xm gp gi gx go ch (zc_u to s t) gq gf (zc_u sf s m) xup yup kn (zc_u fl s true) xs gs gm gv gr ga xv xrs xrr xra (upd xss s (zc_s gp m)) P D := by
  obtain ⟨hnum, hb1, hb2, hb3, hup, hk1, hk2, hG, hiv, hD, hcur, hch, hK, hv, hd, hsl, hmk, hsm, hfr, hsv⟩ := F
  have hn := hnum.1.2
  have hix12 : ∀ j, ix j ≤ 12 := fun j => Nat.le_trans (hb1.1 j) hnum.2.2.1.2
  refine ⟨hnum, hb1, ⟨hb2.1, hb, zn_ub hb2.2.2.1 (by omega), hb2.2.2.2⟩, ⟨hb3.1, hb3.2.1, hb3.2.2.1, hb3.2.2.2.1, hb3.2.2.2.2.1, fun j => ?_⟩, hup, hk1, hk2, hG, hiv, hD, hcur, hch, hK, fun q i x hq hi hx => ?_, hd, fun s' hs' => ?_, hmk, hsm, hfr, hsv⟩
  · by_cases h : j = s
    · subst h; rw [zn_us]; omega
    · rw [zn_un h]; exact hb3.2.2.2.2.2 j
  · have h3 := hix12 q
    rw [h2 _ x hx (by omega), h2 _ x hx (by omega)]
    exact hv q i x hq hi hx
  · by_cases h : s' = s
    · subst h
      rw [zn_us, zn_us, zn_us, zn_us, pk_us]
      refine ⟨by rw [decide_eq_true (by omega)], fun _ => ⟨rfl, ht, hm, rfl, h1⟩⟩
    · have h0 := hsl s' hs'
      rw [zn_un h, zn_un h, zn_un h, zn_un h, pk_un h]
      refine ⟨h0.1, fun h3 => ?_⟩
      have h4 := h0.2 h3
      refine ⟨h4.1, h4.2.1, h4.2.2.1, h4.2.2.2.1, fun x hx => ?_⟩
      rw [h2 _ x hx (by omega)]
      exact h4.2.2.2.2 x hx
/-- slot s is emptied -/
theorem zr_emptyF (F : zr_F n sc lm sv rl bg ix ic st en xo xp xt xk xl xm gp gi gx go ch to gq gf sf xup yup kn fl xs gs gm gv gr ga xv xrs xrr xra xss P D) : zr_F n sc lm sv rl bg ix ic st en xo xp (zc_u xt s 0) xk xl xm gp gi gx go ch to gq gf sf xup yup kn (zc_u fl s false) xs gs gm gv gr ga xv xrs xrr xra xss P D := by
  obtain ⟨hnum, hb1, hb2, hb3, hup, hk1, hk2, hG, hiv, hD, hcur, hch, hK, hv, hd, hsl, hmk, hsm, hfr, hsv⟩ := F
  refine ⟨hnum, hb1, ⟨hb2.1, hb2.2.1, zn_ub hb2.2.2.1 (by omega), hb2.2.2.2⟩, hb3, hup, hk1, hk2, hG, hiv, hD, hcur, hch, hK, hv, hd, fun s' hs' => ?_, hmk, hsm, hfr, hsv⟩
  by_cases h : s' = s
  · subst h
    rw [zn_us, zn_us]
    exact ⟨rfl, fun h => absurd rfl h⟩
  · rw [zn_un h, zn_un h]
    exact hsl s' hs'
theorem zr_ffF (hsl : zr_s n N sc fl to sf xt gp xp xss D) : zf_ff (fun s => decide (xt s = 0)) sc 0 = zf_ff (fun s => !fl s) sc 0 := by
  refine zf_ff_cg sc 0 (fun j _ hj => ?_)
  have h := (hsl j (by omega)).1
  try dsimp only
  rw [h]
  by_cases h0 : xt j = 0
  · rw [decide_eq_true h0, decide_eq_false (fun z => z h0)]; rfl
  · rw [decide_eq_false h0, decide_eq_true h0]; rfl
end
end
section
/-! the relation itself: what holds of every coded pair of states with the facts holds of u and v -/
def i_Rel (k : Nat) (u : SX) (v : SY) : Prop := ∀ Q : SX → SY → Prop, (∀ (n sc lm sv rl bg : Nat) (xup : Nat → Bool) (ix ic st : Nat → Nat) (un rp dc xv : Nat → Int32) (xs : Nat → Bool) (xo : Nat → Nat) (xrs xrr xra : Nat → Int32) (xp xt : Nat → Nat) (xss sr sa : Nat → Int32) (en xk xl xm : Nat → Nat) (op ol ov : Nat → Int32) (gp gi gx : Nat → Nat) (gv : Nat → Int32) (gq gf : Nat → Nat) (gr ga : Nat → Int32) (go : Nat → Nat) (gs gm yp yup : Nat → Bool) (ch : Nat → Nat) (kn fl : Nat → Bool) (to sf : Nat → Nat) (P : Nat → Nat → Bool) (D : Nat → Nat → Nat), zr_F n sc lm sv rl bg ix ic st en xo xp xt xk xl xm gp gi gx go ch to gq gf sf xup yup kn fl xs gs gm gv gr ga xv xrs xrr xra xss P D → Q (nI n, nI sc, nI lm, nI sv, nI rl, nI bg, zc_B xup, zc_N ix, zc_N ic, zc_N st, un, rp, dc, xv, zc_B xs, zc_N xo, xrs, xrr, xra, zc_O xp, zc_O xt, xss, sr, sa, zc_N en, zc_N xk, zc_N xl, zc_E xm, op, ol, ov) (nI n, nI sc, nI lm, nI sv, nI bg, nI rl, zc_N gp, zc_N gi, zc_N gx, gv, zc_E gq, zc_E gf, gr, ga, zc_N go, zc_B gs, zc_B gm, zc_B yp, zc_B yup, zc_N ix, zc_N ic, zc_N st, un, rp, dc, zc_N ch, zc_N en, zc_B kn, zc_B fl, zc_N to, zc_E sf, sr, sa, op, ol, ov)) → Q u v
theorem i_up {k : Nat} {u : SX} {v : SY} (h : i_Rel k u v) : i_Rel (k + 4) u v := h
section
variable {n sc lm sv rl bg : Nat} {xup xs gs gm yp yup kn fl : Nat → Bool} {ix ic st xo xp xt en xk xl xm gp gi gx gq gf go ch to sf : Nat → Nat} {un rp dc xv xrs xrr xra xss sr sa op ol ov gv gr ga : Nat → Int32}
variable {P : Nat → Nat → Bool} {D : Nat → Nat → Nat}
theorem zr_mk {k : Nat} (F : zr_F n sc lm sv rl bg ix ic st en xo xp xt xk xl xm gp gi gx go ch to gq gf sf xup yup kn fl xs gs gm gv gr ga xv xrs xrr xra xss P D) : i_Rel k (nI n, nI sc, nI lm, nI sv, nI rl, nI bg, zc_B xup, zc_N ix, zc_N ic, zc_N st, un, rp, dc, xv, zc_B xs, zc_N xo, xrs, xrr, xra, zc_O xp, zc_O xt, xss, sr, sa, zc_N en, zc_N xk, zc_N xl, zc_E xm, op, ol, ov) (nI n, nI sc, nI lm, nI sv, nI bg, nI rl, zc_N gp, zc_N gi, zc_N gx, gv, zc_E gq, zc_E gf, gr, ga, zc_N go, zc_B gs, zc_B gm, zc_B yp, zc_B yup, zc_N ix, zc_N ic, zc_N st, un, rp, dc, zc_N ch, zc_N en, zc_B kn, zc_B fl, zc_N to, zc_E sf, sr, sa, op, ol, ov) := fun Q h => h n sc lm sv rl bg xup ix ic st un rp dc xv xs xo xrs xrr xra xp xt xss sr sa en xk xl xm op ol ov gp gi gx gv gq gf gr ga go gs gm yp yup ch kn fl to sf P D F
theorem zr_nn {v1 : Int32} (h : nI n ≤ v1) (hn : n ≤ 1000) : (v1 < 0) = False := eq_false (fun z => absurd (Int32.lt_of_le_of_lt h z) (nI_pos (by omega)))
theorem zr_le {v1 : Int32} {a : Nat} (h : nI n ≤ v1) (ha : a < n) (hn : n ≤ 1000) : (v1 ≤ nI a) = False := eq_false (fun z => absurd (Int32.le_trans h z) (nI_ge ha (by omega)))
end
end
section
/-! questions that read one cell -/
section
variable {n sc lm sv rl bg : Nat} {xup xs gs gm yp yup kn fl : Nat → Bool} {ix ic st xo xp xt en xk xl xm gp gi gx gq gf go ch to sf : Nat → Nat} {un rp dc xv xrs xrr xra xss sr sa op ol ov gv gr ga : Nat → Int32}
variable {P : Nat → Nat → Bool} {D : Nat → Nat → Nat} {k : Nat}
theorem zt_total {v1 : Int32} (F : zr_F n sc lm sv rl bg ix ic st en xo xp xt xk xl xm gp gi gx go ch to gq gf sf xup yup kn fl xs gs gm gv gr ga xv xrs xrr xra xss P D) : wpX_total (fun r => wpY_total (fun r' => r' = r ∧ i_Rel (k + 4) (nI n, nI sc, nI lm, nI sv, nI rl, nI bg, zc_B xup, zc_N ix, zc_N ic, zc_N st, un, rp, dc, xv, zc_B xs, zc_N xo, xrs, xrr, xra, zc_O xp, zc_O xt, xss, sr, sa, zc_N en, zc_N xk, zc_N xl, zc_E xm, op, ol, ov) (nI n, nI sc, nI lm, nI sv, nI bg, nI rl, zc_N gp, zc_N gi, zc_N gx, gv, zc_E gq, zc_E gf, gr, ga, zc_N go, zc_B gs, zc_B gm, zc_B yp, zc_B yup, zc_N ix, zc_N ic, zc_N st, un, rp, dc, zc_N ch, zc_N en, zc_B kn, zc_B fl, zc_N to, zc_E sf, sr, sa, op, ol, ov)) (nI n, nI sc, nI lm, nI sv, nI bg, nI rl, zc_N gp, zc_N gi, zc_N gx, gv, zc_E gq, zc_E gf, gr, ga, zc_N go, zc_B gs, zc_B gm, zc_B yp, zc_B yup, zc_N ix, zc_N ic, zc_N st, un, rp, dc, zc_N ch, zc_N en, zc_B kn, zc_B fl, zc_N to, zc_E sf, sr, sa, op, ol, ov) v1) (nI n, nI sc, nI lm, nI sv, nI rl, nI bg, zc_B xup, zc_N ix, zc_N ic, zc_N st, un, rp, dc, xv, zc_B xs, zc_N xo, xrs, xrr, xra, zc_O xp, zc_O xt, xss, sr, sa, zc_N en, zc_N xk, zc_N xl, zc_E xm, op, ol, ov) v1 := by
  have R : i_Rel (k + 4) (nI n, nI sc, nI lm, nI sv, nI rl, nI bg, zc_B xup, zc_N ix, zc_N ic, zc_N st, un, rp, dc, xv, zc_B xs, zc_N xo, xrs, xrr, xra, zc_O xp, zc_O xt, xss, sr, sa, zc_N en, zc_N xk, zc_N xl, zc_E xm, op, ol, ov) (nI n, nI sc, nI lm, nI sv, nI bg, nI rl, zc_N gp, zc_N gi, zc_N gx, gv, zc_E gq, zc_E gf, gr, ga, zc_N go, zc_B gs, zc_B gm, zc_B yp, zc_B yup, zc_N ix, zc_N ic, zc_N st, un, rp, dc, zc_N ch, zc_N en, zc_B kn, zc_B fl, zc_N to, zc_E sf, sr, sa, op, ol, ov) := zr_mk F
  unfold wpX_total
  dsimp only
  unfold wpY_total
  dsimp only
  by_cases h0 : v1 = 0
  · subst h0; exact br_f (by decide) (br_f (by decide) (br_t rfl (br_t rfl ⟨rfl, R⟩)))
  by_cases h1 : v1 = 1
  · subst h1; exact br_f (by decide) (br_f (by decide) (br_f (by decide) (br_t rfl (br_f (by decide) (br_t rfl ⟨rfl, R⟩)))))
  by_cases h2 : v1 = 2
  · subst h2; exact br_f (by decide) (br_f (by decide) (br_f (by decide) (br_f (by decide) (br_t rfl (br_f (by decide) (br_f (by decide) (br_t rfl ⟨rfl, R⟩)))))))
  by_cases h3 : v1 = 3
  · subst h3; exact br_f (by decide) (br_f (by decide) (br_f (by decide) (br_f (by decide) (br_f (by decide) (br_t rfl (br_f (by decide) (br_f (by decide) (br_f (by decide) (br_t rfl ⟨rfl, R⟩)))))))))
  by_cases h4 : v1 = 4
  · subst h4; exact br_f (by decide) (br_f (by decide) (br_f (by decide) (br_f (by decide) (br_f (by decide) (br_f (by decide) (br_t rfl (br_f (by decide) (br_f (by decide) (br_f (by decide) (br_f (by decide) (br_t rfl ⟨rfl, R⟩)))))))))))
  by_cases h5 : v1 = 5
  · subst h5; exact br_f (by decide) (br_f (by decide) (br_f (by decide) (br_f (by decide) (br_f (by decide) (br_f (by decide) (br_f (by decide) (br_t rfl (br_f (by decide) (br_f (by decide) (br_f (by decide) (br_f (by decide) (br_f (by decide) (br_t rfl ⟨rfl, R⟩)))))))))))))
  simp only [h0, h1, h2, h3, h4, h5, false_imp_iff, not_false_eq_true, true_imp_iff, true_and, imp_true_iff, and_true]
  exact br_c (fun _ => R) (fun _ _ => R)
theorem zt_output {v1 v2 : Int32} (F : zr_F n sc lm sv rl bg ix ic st en xo xp xt xk xl xm gp gi gx go ch to gq gf sf xup yup kn fl xs gs gm gv gr ga xv xrs xrr xra xss P D) : wpX_output (fun r => wpY_output (fun r' => r' = r ∧ i_Rel (k + 4) (nI n, nI sc, nI lm, nI sv, nI rl, nI bg, zc_B xup, zc_N ix, zc_N ic, zc_N st, un, rp, dc, xv, zc_B xs, zc_N xo, xrs, xrr, xra, zc_O xp, zc_O xt, xss, sr, sa, zc_N en, zc_N xk, zc_N xl, zc_E xm, op, ol, ov) (nI n, nI sc, nI lm, nI sv, nI bg, nI rl, zc_N gp, zc_N gi, zc_N gx, gv, zc_E gq, zc_E gf, gr, ga, zc_N go, zc_B gs, zc_B gm, zc_B yp, zc_B yup, zc_N ix, zc_N ic, zc_N st, un, rp, dc, zc_N ch, zc_N en, zc_B kn, zc_B fl, zc_N to, zc_E sf, sr, sa, op, ol, ov)) (nI n, nI sc, nI lm, nI sv, nI bg, nI rl, zc_N gp, zc_N gi, zc_N gx, gv, zc_E gq, zc_E gf, gr, ga, zc_N go, zc_B gs, zc_B gm, zc_B yp, zc_B yup, zc_N ix, zc_N ic, zc_N st, un, rp, dc, zc_N ch, zc_N en, zc_B kn, zc_B fl, zc_N to, zc_E sf, sr, sa, op, ol, ov) v1 v2) (nI n, nI sc, nI lm, nI sv, nI rl, nI bg, zc_B xup, zc_N ix, zc_N ic, zc_N st, un, rp, dc, xv, zc_B xs, zc_N xo, xrs, xrr, xra, zc_O xp, zc_O xt, xss, sr, sa, zc_N en, zc_N xk, zc_N xl, zc_E xm, op, ol, ov) v1 v2 := by
  have R : i_Rel (k + 4) (nI n, nI sc, nI lm, nI sv, nI rl, nI bg, zc_B xup, zc_N ix, zc_N ic, zc_N st, un, rp, dc, xv, zc_B xs, zc_N xo, xrs, xrr, xra, zc_O xp, zc_O xt, xss, sr, sa, zc_N en, zc_N xk, zc_N xl, zc_E xm, op, ol, ov) (nI n, nI sc, nI lm, nI sv, nI bg, nI rl, zc_N gp, zc_N gi, zc_N gx, gv, zc_E gq, zc_E gf, gr, ga, zc_N go, zc_B gs, zc_B gm, zc_B yp, zc_B yup, zc_N ix, zc_N ic, zc_N st, un, rp, dc, zc_N ch, zc_N en, zc_B kn, zc_B fl, zc_N to, zc_E sf, sr, sa, op, ol, ov) := zr_mk F
  obtain ⟨hnum, -⟩ := F
  obtain ⟨hn, hsc, hlm, hsv, hrl, hbg⟩ := hnum
  unfold wpX_output
  dsimp only
  unfold wpY_output
  dsimp only
  rcases pk_ix v1 (n := rl) (by omega) with h | h | ⟨j, hj, rfl⟩
  · exact br_t h (br_t h ⟨rfl, R⟩)
  · have h0 : ¬ v1 < 0 := fun z => absurd (Int32.lt_of_le_of_lt h z) (nI_pos (by omega))
    have h1 : ¬ v1 < nI rl := fun z => absurd (Int32.lt_of_le_of_lt h z) Int32.lt_irrefl
    exact br_f h0 (br_f h1 (br_f h0 (br_f h1 ⟨rfl, R⟩)))
  · have h0 : ¬ nI j < 0 := nI_pos (by omega)
    have h1 : nI j < nI rl := nI_lt hj (by omega)
    have hi : vp_in (nI j) 48 := vp_in_nI (by omega) (by omega)
    by_cases e0 : v2 = 0
    · subst e0; exact br_f h0 (br_t h1 (br_f (by decide) (br_f (by decide) (br_t rfl ⟨hi, br_f h0 (br_t h1 (br_t rfl ⟨hi, rfl, R⟩))⟩))))
    by_cases e1 : v2 = 1
    · subst e1; exact br_f h0 (br_t h1 (br_f (by decide) (br_f (by decide) (br_f (by decide) (br_t rfl ⟨hi, br_f h0 (br_t h1 (br_f (by decide) (br_t rfl ⟨hi, rfl, R⟩)))⟩)))))
    by_cases e2 : v2 = 2
    · subst e2; exact br_f h0 (br_t h1 (br_f (by decide) (br_f (by decide) (br_f (by decide) (br_f (by decide) (br_t rfl ⟨hi, br_f h0 (br_t h1 (br_f (by decide) (br_f (by decide) (br_t rfl ⟨hi, rfl, R⟩))))⟩))))))
    simp only [h0, h1, e0, e1, e2, false_imp_iff, not_false_eq_true, true_imp_iff, true_and, imp_true_iff, and_true, not_true_eq_false]
    exact br_c (fun _ => R) (fun _ _ => R)
theorem zt_endOf {v1 v2 : Int32} (F : zr_F n sc lm sv rl bg ix ic st en xo xp xt xk xl xm gp gi gx go ch to gq gf sf xup yup kn fl xs gs gm gv gr ga xv xrs xrr xra xss P D) : wpX_endOf (fun r => wpY_endOf (fun r' => r' = r ∧ i_Rel (k + 4) (nI n, nI sc, nI lm, nI sv, nI rl, nI bg, zc_B xup, zc_N ix, zc_N ic, zc_N st, un, rp, dc, xv, zc_B xs, zc_N xo, xrs, xrr, xra, zc_O xp, zc_O xt, xss, sr, sa, zc_N en, zc_N xk, zc_N xl, zc_E xm, op, ol, ov) (nI n, nI sc, nI lm, nI sv, nI bg, nI rl, zc_N gp, zc_N gi, zc_N gx, gv, zc_E gq, zc_E gf, gr, ga, zc_N go, zc_B gs, zc_B gm, zc_B yp, zc_B yup, zc_N ix, zc_N ic, zc_N st, un, rp, dc, zc_N ch, zc_N en, zc_B kn, zc_B fl, zc_N to, zc_E sf, sr, sa, op, ol, ov)) (nI n, nI sc, nI lm, nI sv, nI bg, nI rl, zc_N gp, zc_N gi, zc_N gx, gv, zc_E gq, zc_E gf, gr, ga, zc_N go, zc_B gs, zc_B gm, zc_B yp, zc_B yup, zc_N ix, zc_N ic, zc_N st, un, rp, dc, zc_N ch, zc_N en, zc_B kn, zc_B fl, zc_N to, zc_E sf, sr, sa, op, ol, ov) v1 v2) (nI n, nI sc, nI lm, nI sv, nI rl, nI bg, zc_B xup, zc_N ix, zc_N ic, zc_N st, un, rp, dc, xv, zc_B xs, zc_N xo, xrs, xrr, xra, zc_O xp, zc_O xt, xss, sr, sa, zc_N en, zc_N xk, zc_N xl, zc_E xm, op, ol, ov) v1 v2 := by
  have R : i_Rel (k + 4) (nI n, nI sc, nI lm, nI sv, nI rl, nI bg, zc_B xup, zc_N ix, zc_N ic, zc_N st, un, rp, dc, xv, zc_B xs, zc_N xo, xrs, xrr, xra, zc_O xp, zc_O xt, xss, sr, sa, zc_N en, zc_N xk, zc_N xl, zc_E xm, op, ol, ov) (nI n, nI sc, nI lm, nI sv, nI bg, nI rl, zc_N gp, zc_N gi, zc_N gx, gv, zc_E gq, zc_E gf, gr, ga, zc_N go, zc_B gs, zc_B gm, zc_B yp, zc_B yup, zc_N ix, zc_N ic, zc_N st, un, rp, dc, zc_N ch, zc_N en, zc_B kn, zc_B fl, zc_N to, zc_E sf, sr, sa, op, ol, ov) := zr_mk F
  obtain ⟨hnum, hb1, -⟩ := F
  obtain ⟨hn, hsc, hlm, hsv, hrl, hbg⟩ := hnum
  unfold wpX_endOf wpY_endOf wpX_isProcess wpY_isProcess
  rcases pk_ix v1 (n := n) (by omega) with h | h | ⟨x, hx, rfl⟩
  · simp (disch := omega) only [zn_k4, zn_k8, zn_k16, zn_k32, zn_m16, zn_a64, zn_a128, nI_add, nI_1, nI_clamp, vp_in_nI, true_and, and_true, forall_eq, zn_rN, zn_rB, zn_rO, zn_rE, zn_vb0, zn_vb1, zn_b1, zn_b0, zn_d1, zn_d0, zn_e1, zn_e0, zn_wN, zn_wB1, zn_wB0, zn_wO, zn_wOd, zn_wO0, zn_wE, zn_wEe, zn_wE0, zn_leT, zn_leF, zn_ltT, zn_ltF, zn_eqF, zn_eqT, zn_lt0, zn_0le, zn_d2a, zn_d2b, zn_e1a, zn_e1b, zn_10, zn_00, zn_sh4, zn_an15, true_imp_iff, false_imp_iff, imp_true_iff, not_true_eq_false, not_false_eq_true, zn_gT4, zn_gF4, zn_gT8, zn_gF8, zn_gT12, zn_gF12, zn_gT48, zn_gF48, zn_gT124, zn_gF124, zn_gT128, zn_gF128, zn_gT560, zn_gF560, zn_lT7, zn_lF7, zn_lT120, zn_lF120, zn_qT7, zn_qF7, zn_qT120, zn_qF120, zn_qT0, zn_qF0, zn_qT1, zn_qF1, zn_hT0, zn_hF0, zn_hT7, zn_hF7, zn_sb, pk_us, zn_us, h]
    first | exact ⟨rfl, R⟩ | exact R
  · simp (disch := omega) only [zn_k4, zn_k8, zn_k16, zn_k32, zn_m16, zn_a64, zn_a128, nI_add, nI_1, nI_clamp, vp_in_nI, true_and, and_true, forall_eq, zn_rN, zn_rB, zn_rO, zn_rE, zn_vb0, zn_vb1, zn_b1, zn_b0, zn_d1, zn_d0, zn_e1, zn_e0, zn_wN, zn_wB1, zn_wB0, zn_wO, zn_wOd, zn_wO0, zn_wE, zn_wEe, zn_wE0, zn_leT, zn_leF, zn_ltT, zn_ltF, zn_eqF, zn_eqT, zn_lt0, zn_0le, zn_d2a, zn_d2b, zn_e1a, zn_e1b, zn_10, zn_00, zn_sh4, zn_an15, true_imp_iff, false_imp_iff, imp_true_iff, not_true_eq_false, not_false_eq_true, zn_gT4, zn_gF4, zn_gT8, zn_gF8, zn_gT12, zn_gF12, zn_gT48, zn_gF48, zn_gT124, zn_gF124, zn_gT128, zn_gF128, zn_gT560, zn_gF560, zn_lT7, zn_lF7, zn_lT120, zn_lF120, zn_qT7, zn_qF7, zn_qT120, zn_qF120, zn_qT0, zn_qF0, zn_qT1, zn_qF1, zn_hT0, zn_hF0, zn_hT7, zn_hF7, zn_sb, pk_us, zn_us, h, zr_nn h (by omega)]
    first | exact ⟨rfl, R⟩ | exact R
  · rcases pk_ix v2 (n := 8) (by omega) with h | h | ⟨c, hc, rfl⟩
    · simp (disch := omega) only [zn_k4, zn_k8, zn_k16, zn_k32, zn_m16, zn_a64, zn_a128, nI_add, nI_1, nI_clamp, vp_in_nI, true_and, and_true, forall_eq, zn_rN, zn_rB, zn_rO, zn_rE, zn_vb0, zn_vb1, zn_b1, zn_b0, zn_d1, zn_d0, zn_e1, zn_e0, zn_wN, zn_wB1, zn_wB0, zn_wO, zn_wOd, zn_wO0, zn_wE, zn_wEe, zn_wE0, zn_leT, zn_leF, zn_ltT, zn_ltF, zn_eqF, zn_eqT, zn_lt0, zn_0le, zn_d2a, zn_d2b, zn_e1a, zn_e1b, zn_10, zn_00, zn_sh4, zn_an15, true_imp_iff, false_imp_iff, imp_true_iff, not_true_eq_false, not_false_eq_true, zn_gT4, zn_gF4, zn_gT8, zn_gF8, zn_gT12, zn_gF12, zn_gT48, zn_gF48, zn_gT124, zn_gF124, zn_gT128, zn_gF128, zn_gT560, zn_gF560, zn_lT7, zn_lF7, zn_lT120, zn_lF120, zn_qT7, zn_qF7, zn_qT120, zn_qF120, zn_qT0, zn_qF0, zn_qT1, zn_qF1, zn_hT0, zn_hF0, zn_hT7, zn_hF7, zn_sb, pk_us, zn_us, h]
      first | exact ⟨rfl, R⟩ | exact R
    · simp (disch := omega) only [zn_k4, zn_k8, zn_k16, zn_k32, zn_m16, zn_a64, zn_a128, nI_add, nI_1, nI_clamp, vp_in_nI, true_and, and_true, forall_eq, zn_rN, zn_rB, zn_rO, zn_rE, zn_vb0, zn_vb1, zn_b1, zn_b0, zn_d1, zn_d0, zn_e1, zn_e0, zn_wN, zn_wB1, zn_wB0, zn_wO, zn_wOd, zn_wO0, zn_wE, zn_wEe, zn_wE0, zn_leT, zn_leF, zn_ltT, zn_ltF, zn_eqF, zn_eqT, zn_lt0, zn_0le, zn_d2a, zn_d2b, zn_e1a, zn_e1b, zn_10, zn_00, zn_sh4, zn_an15, true_imp_iff, false_imp_iff, imp_true_iff, not_true_eq_false, not_false_eq_true, zn_gT4, zn_gF4, zn_gT8, zn_gF8, zn_gT12, zn_gF12, zn_gT48, zn_gF48, zn_gT124, zn_gF124, zn_gT128, zn_gF128, zn_gT560, zn_gF560, zn_lT7, zn_lF7, zn_lT120, zn_lF120, zn_qT7, zn_qF7, zn_qT120, zn_qF120, zn_qT0, zn_qF0, zn_qT1, zn_qF1, zn_hT0, zn_hF0, zn_hT7, zn_hF7, zn_sb, pk_us, zn_us, zr_nn (n := 8) h (by omega), zr_le (n := 8) (a := 7) h (by omega) (by omega)]
      have h7 := zr_le (n := 8) (a := 7) h (by omega) (by omega)
      rw [show (7 : Int32) = nI 7 from rfl]
      simp (disch := omega) only [zn_k4, zn_k8, zn_k16, zn_k32, zn_m16, zn_a64, zn_a128, nI_add, nI_1, nI_clamp, vp_in_nI, true_and, and_true, forall_eq, zn_rN, zn_rB, zn_rO, zn_rE, zn_vb0, zn_vb1, zn_b1, zn_b0, zn_d1, zn_d0, zn_e1, zn_e0, zn_wN, zn_wB1, zn_wB0, zn_wO, zn_wOd, zn_wO0, zn_wE, zn_wEe, zn_wE0, zn_leT, zn_leF, zn_ltT, zn_ltF, zn_eqF, zn_eqT, zn_lt0, zn_0le, zn_d2a, zn_d2b, zn_e1a, zn_e1b, zn_10, zn_00, zn_sh4, zn_an15, true_imp_iff, false_imp_iff, imp_true_iff, not_true_eq_false, not_false_eq_true, zn_gT4, zn_gF4, zn_gT8, zn_gF8, zn_gT12, zn_gF12, zn_gT48, zn_gF48, zn_gT124, zn_gF124, zn_gT128, zn_gF128, zn_gT560, zn_gF560, zn_lT7, zn_lF7, zn_lT120, zn_lF120, zn_qT7, zn_qF7, zn_qT120, zn_qF120, zn_qT0, zn_qF0, zn_qT1, zn_qF1, zn_hT0, zn_hF0, zn_hT7, zn_hF7, zn_sb, pk_us, zn_us, h7]
      first | exact ⟨rfl, R⟩ | exact R
    · have hi := hb1.2.1 x
      by_cases hcx : c < ic x
      · simp (disch := omega) only [zn_k4, zn_k8, zn_k16, zn_k32, zn_m16, zn_a64, zn_a128, nI_add, nI_1, nI_clamp, vp_in_nI, true_and, and_true, forall_eq, zn_rN, zn_rB, zn_rO, zn_rE, zn_vb0, zn_vb1, zn_b1, zn_b0, zn_d1, zn_d0, zn_e1, zn_e0, zn_wN, zn_wB1, zn_wB0, zn_wO, zn_wOd, zn_wO0, zn_wE, zn_wEe, zn_wE0, zn_leT, zn_leF, zn_ltT, zn_ltF, zn_eqF, zn_eqT, zn_lt0, zn_0le, zn_d2a, zn_d2b, zn_e1a, zn_e1b, zn_10, zn_00, zn_sh4, zn_an15, true_imp_iff, false_imp_iff, imp_true_iff, not_true_eq_false, not_false_eq_true, zn_gT4, zn_gF4, zn_gT8, zn_gF8, zn_gT12, zn_gF12, zn_gT48, zn_gF48, zn_gT124, zn_gF124, zn_gT128, zn_gF128, zn_gT560, zn_gF560, zn_lT7, zn_lF7, zn_lT120, zn_lF120, zn_qT7, zn_qF7, zn_qT120, zn_qF120, zn_qT0, zn_qF0, zn_qT1, zn_qF1, zn_hT0, zn_hF0, zn_hT7, zn_hF7, zn_sb, pk_us, zn_us]
        first | exact ⟨rfl, R⟩ | exact R
      · simp (disch := omega) only [zn_k4, zn_k8, zn_k16, zn_k32, zn_m16, zn_a64, zn_a128, nI_add, nI_1, nI_clamp, vp_in_nI, true_and, and_true, forall_eq, zn_rN, zn_rB, zn_rO, zn_rE, zn_vb0, zn_vb1, zn_b1, zn_b0, zn_d1, zn_d0, zn_e1, zn_e0, zn_wN, zn_wB1, zn_wB0, zn_wO, zn_wOd, zn_wO0, zn_wE, zn_wEe, zn_wE0, zn_leT, zn_leF, zn_ltT, zn_ltF, zn_eqF, zn_eqT, zn_lt0, zn_0le, zn_d2a, zn_d2b, zn_e1a, zn_e1b, zn_10, zn_00, zn_sh4, zn_an15, true_imp_iff, false_imp_iff, imp_true_iff, not_true_eq_false, not_false_eq_true, zn_gT4, zn_gF4, zn_gT8, zn_gF8, zn_gT12, zn_gF12, zn_gT48, zn_gF48, zn_gT124, zn_gF124, zn_gT128, zn_gF128, zn_gT560, zn_gF560, zn_lT7, zn_lF7, zn_lT120, zn_lF120, zn_qT7, zn_qF7, zn_qT120, zn_qF120, zn_qT0, zn_qF0, zn_qT1, zn_qF1, zn_hT0, zn_hF0, zn_hT7, zn_hF7, zn_sb, pk_us, zn_us]
        first | exact ⟨rfl, R⟩ | exact R
end
end
section
/-! questions about slots, knowledge, processes, intervals -/
theorem zf_cnt_all (q : Nat → Bool) : ∀ d i, (∀ j, i ≤ j → j < i + d → q j = true) → zf_cnt q d i = d := by
  intro d
  induction d with
  | zero => intro i _; rfl
  | succ d ih =>
    intro i h
    rw [zf_cnt_s, if_pos (h i (by omega) (by omega)), ih (i + 1) (fun j h1 h2 => h j (by omega) (by omega))]
    omega
theorem zf_cnt_non (q : Nat → Bool) : ∀ d i, (∀ j, i ≤ j → j < i + d → q j = false) → zf_cnt q d i = 0 := by
  intro d
  induction d with
  | zero => intro i _; rfl
  | succ d ih =>
    intro i h
    rw [zf_cnt_s, if_neg (by rw [h i (by omega) (by omega)]; decide), ih (i + 1) (fun j h1 h2 => h j (by omega) (by omega))]
theorem zf_cnt_thr (q : Nat → Bool) {s m : Nat} (hs : s ≤ m) (h1 : ∀ j, j ≤ s → q j = true) (h2 : ∀ j, s < j → j ≤ m → q j = false) : zf_cnt q (m + 1) 0 = s + 1 := by
  rw [show m + 1 = (s + 1) + (m - s) by omega, zf_cnt_add, zf_cnt_all q (s + 1) 0 (fun j _ h => h1 j (by omega)), zf_cnt_non q (m - s) (0 + (s + 1)) (fun j h3 h4 => h2 j (by omega) (by omega))]
section
variable {n sc lm sv rl bg : Nat} {xup xs gs gm yp yup kn fl : Nat → Bool} {ix ic st xo xp xt en xk xl xm gp gi gx gq gf go ch to sf : Nat → Nat} {un rp dc xv xrs xrr xra xss sr sa op ol ov gv gr ga : Nat → Int32}
variable {P : Nat → Nat → Bool} {D : Nat → Nat → Nat} {k : Nat}
theorem zt_slot {v1 v2 : Int32} (F : zr_F n sc lm sv rl bg ix ic st en xo xp xt xk xl xm gp gi gx go ch to gq gf sf xup yup kn fl xs gs gm gv gr ga xv xrs xrr xra xss P D) : wpX_slot (fun r => wpY_slot (fun r' => r' = r ∧ i_Rel (k + 4) (nI n, nI sc, nI lm, nI sv, nI rl, nI bg, zc_B xup, zc_N ix, zc_N ic, zc_N st, un, rp, dc, xv, zc_B xs, zc_N xo, xrs, xrr, xra, zc_O xp, zc_O xt, xss, sr, sa, zc_N en, zc_N xk, zc_N xl, zc_E xm, op, ol, ov) (nI n, nI sc, nI lm, nI sv, nI bg, nI rl, zc_N gp, zc_N gi, zc_N gx, gv, zc_E gq, zc_E gf, gr, ga, zc_N go, zc_B gs, zc_B gm, zc_B yp, zc_B yup, zc_N ix, zc_N ic, zc_N st, un, rp, dc, zc_N ch, zc_N en, zc_B kn, zc_B fl, zc_N to, zc_E sf, sr, sa, op, ol, ov)) (nI n, nI sc, nI lm, nI sv, nI bg, nI rl, zc_N gp, zc_N gi, zc_N gx, gv, zc_E gq, zc_E gf, gr, ga, zc_N go, zc_B gs, zc_B gm, zc_B yp, zc_B yup, zc_N ix, zc_N ic, zc_N st, un, rp, dc, zc_N ch, zc_N en, zc_B kn, zc_B fl, zc_N to, zc_E sf, sr, sa, op, ol, ov) v1 v2) (nI n, nI sc, nI lm, nI sv, nI rl, nI bg, zc_B xup, zc_N ix, zc_N ic, zc_N st, un, rp, dc, xv, zc_B xs, zc_N xo, xrs, xrr, xra, zc_O xp, zc_O xt, xss, sr, sa, zc_N en, zc_N xk, zc_N xl, zc_E xm, op, ol, ov) v1 v2 := by
  have R : i_Rel (k + 4) (nI n, nI sc, nI lm, nI sv, nI rl, nI bg, zc_B xup, zc_N ix, zc_N ic, zc_N st, un, rp, dc, xv, zc_B xs, zc_N xo, xrs, xrr, xra, zc_O xp, zc_O xt, xss, sr, sa, zc_N en, zc_N xk, zc_N xl, zc_E xm, op, ol, ov) (nI n, nI sc, nI lm, nI sv, nI bg, nI rl, zc_N gp, zc_N gi, zc_N gx, gv, zc_E gq, zc_E gf, gr, ga, zc_N go, zc_B gs, zc_B gm, zc_B yp, zc_B yup, zc_N ix, zc_N ic, zc_N st, un, rp, dc, zc_N ch, zc_N en, zc_B kn, zc_B fl, zc_N to, zc_E sf, sr, sa, op, ol, ov) := zr_mk F
  obtain ⟨hnum, hb1, hb2, hb3, hup, hk1, hk2, hG, hiv, hD, hcur, hch, hK, hv, hd, hsl, hm, hsm, hfr, hsv⟩ := F
  obtain ⟨hn, hsc, hlm, hsvn, hrl, hbg⟩ := hnum
  unfold wpX_slot wpY_slot wpX_isSlot
  rcases pk_ix v1 (n := sc) (by omega) with h | h | ⟨s, hs, rfl⟩
  · simp (disch := omega) only [zn_k4, zn_k8, zn_k16, zn_k32, zn_m16, zn_a64, zn_a128, nI_add, nI_1, nI_clamp, vp_in_nI, true_and, and_true, forall_eq, zn_rN, zn_rB, zn_rO, zn_rE, zn_vb0, zn_vb1, zn_b1, zn_b0, zn_d1, zn_d0, zn_e1, zn_e0, zn_wN, zn_wB1, zn_wB0, zn_wO, zn_wOd, zn_wO0, zn_wE, zn_wEe, zn_wE0, zn_leT, zn_leF, zn_ltT, zn_ltF, zn_eqF, zn_eqT, zn_lt0, zn_0le, zn_d2a, zn_d2b, zn_e1a, zn_e1b, zn_10, zn_00, zn_sh4, zn_an15, true_imp_iff, false_imp_iff, imp_true_iff, not_true_eq_false, not_false_eq_true, zn_gT4, zn_gF4, zn_gT8, zn_gF8, zn_gT12, zn_gF12, zn_gT48, zn_gF48, zn_gT124, zn_gF124, zn_gT128, zn_gF128, zn_gT560, zn_gF560, zn_lT7, zn_lF7, zn_lT120, zn_lF120, zn_qT7, zn_qF7, zn_qT120, zn_qF120, zn_qT0, zn_qF0, zn_qT1, zn_qF1, zn_hT0, zn_hF0, zn_hT7, zn_hF7, zn_sb, pk_us, zn_us, h]
    first | exact ⟨rfl, R⟩ | exact R
  · simp (disch := omega) only [zn_k4, zn_k8, zn_k16, zn_k32, zn_m16, zn_a64, zn_a128, nI_add, nI_1, nI_clamp, vp_in_nI, true_and, and_true, forall_eq, zn_rN, zn_rB, zn_rO, zn_rE, zn_vb0, zn_vb1, zn_b1, zn_b0, zn_d1, zn_d0, zn_e1, zn_e0, zn_wN, zn_wB1, zn_wB0, zn_wO, zn_wOd, zn_wO0, zn_wE, zn_wEe, zn_wE0, zn_leT, zn_leF, zn_ltT, zn_ltF, zn_eqF, zn_eqT, zn_lt0, zn_0le, zn_d2a, zn_d2b, zn_e1a, zn_e1b, zn_10, zn_00, zn_sh4, zn_an15, true_imp_iff, false_imp_iff, imp_true_iff, not_true_eq_false, not_false_eq_true, zn_gT4, zn_gF4, zn_gT8, zn_gF8, zn_gT12, zn_gF12, zn_gT48, zn_gF48, zn_gT124, zn_gF124, zn_gT128, zn_gF128, zn_gT560, zn_gF560, zn_lT7, zn_lF7, zn_lT120, zn_lF120, zn_qT7, zn_qF7, zn_qT120, zn_qF120, zn_qT0, zn_qF0, zn_qT1, zn_qF1, zn_hT0, zn_hF0, zn_hT7, zn_hF7, zn_sb, pk_us, zn_us, h, zr_nn h (by omega)]
    first | exact ⟨rfl, R⟩ | exact R
  · have hx := hb2.2.2.1 s
    have h0 := hsl s hs
    rcases pk_ix v2 (n := 4) (by omega) with h | h | ⟨c, hc, rfl⟩
    · simp (disch := omega) only [zn_k4, zn_k8, zn_k16, zn_k32, zn_m16, zn_a64, zn_a128, nI_add, nI_1, nI_clamp, vp_in_nI, true_and, and_true, forall_eq, zn_rN, zn_rB, zn_rO, zn_rE, zn_vb0, zn_vb1, zn_b1, zn_b0, zn_d1, zn_d0, zn_e1, zn_e0, zn_wN, zn_wB1, zn_wB0, zn_wO, zn_wOd, zn_wO0, zn_wE, zn_wEe, zn_wE0, zn_leT, zn_leF, zn_ltT, zn_ltF, zn_eqF, zn_eqT, zn_lt0, zn_0le, zn_d2a, zn_d2b, zn_e1a, zn_e1b, zn_10, zn_00, zn_sh4, zn_an15, true_imp_iff, false_imp_iff, imp_true_iff, not_true_eq_false, not_false_eq_true, zn_gT4, zn_gF4, zn_gT8, zn_gF8, zn_gT12, zn_gF12, zn_gT48, zn_gF48, zn_gT124, zn_gF124, zn_gT128, zn_gF128, zn_gT560, zn_gF560, zn_lT7, zn_lF7, zn_lT120, zn_lF120, zn_qT7, zn_qF7, zn_qT120, zn_qF120, zn_qT0, zn_qF0, zn_qT1, zn_qF1, zn_hT0, zn_hF0, zn_hT7, zn_hF7, zn_sb, pk_us, zn_us, h]
      first | exact ⟨rfl, R⟩ | exact R
    · have h7 := zr_le (n := 4) (a := 3) h (by omega) (by omega)
      rw [show nI 3 = 3 from rfl] at h7
      simp (disch := omega) only [zn_k4, zn_k8, zn_k16, zn_k32, zn_m16, zn_a64, zn_a128, nI_add, nI_1, nI_clamp, vp_in_nI, true_and, and_true, forall_eq, zn_rN, zn_rB, zn_rO, zn_rE, zn_vb0, zn_vb1, zn_b1, zn_b0, zn_d1, zn_d0, zn_e1, zn_e0, zn_wN, zn_wB1, zn_wB0, zn_wO, zn_wOd, zn_wO0, zn_wE, zn_wEe, zn_wE0, zn_leT, zn_leF, zn_ltT, zn_ltF, zn_eqF, zn_eqT, zn_lt0, zn_0le, zn_d2a, zn_d2b, zn_e1a, zn_e1b, zn_10, zn_00, zn_sh4, zn_an15, true_imp_iff, false_imp_iff, imp_true_iff, not_true_eq_false, not_false_eq_true, zn_gT4, zn_gF4, zn_gT8, zn_gF8, zn_gT12, zn_gF12, zn_gT48, zn_gF48, zn_gT124, zn_gF124, zn_gT128, zn_gF128, zn_gT560, zn_gF560, zn_lT7, zn_lF7, zn_lT120, zn_lF120, zn_qT7, zn_qF7, zn_qT120, zn_qF120, zn_qT0, zn_qF0, zn_qT1, zn_qF1, zn_hT0, zn_hF0, zn_hT7, zn_hF7, zn_sb, pk_us, zn_us, h7, zr_nn (n := 4) h (by omega)]
      first | exact ⟨rfl, R⟩ | exact R
    · by_cases hq : xt s = 0
      · have hf : fl s = false := by rw [h0.1, decide_eq_false (fun z => z hq)]
        simp (disch := omega) only [zn_k4, zn_k8, zn_k16, zn_k32, zn_m16, zn_a64, zn_a128, nI_add, nI_1, nI_clamp, vp_in_nI, true_and, and_true, forall_eq, zn_rN, zn_rB, zn_rO, zn_rE, zn_vb0, zn_vb1, zn_b1, zn_b0, zn_d1, zn_d0, zn_e1, zn_e0, zn_wN, zn_wB1, zn_wB0, zn_wO, zn_wOd, zn_wO0, zn_wE, zn_wEe, zn_wE0, zn_leT, zn_leF, zn_ltT, zn_ltF, zn_eqF, zn_eqT, zn_lt0, zn_0le, zn_d2a, zn_d2b, zn_e1a, zn_e1b, zn_10, zn_00, zn_sh4, zn_an15, true_imp_iff, false_imp_iff, imp_true_iff, not_true_eq_false, not_false_eq_true, zn_gT4, zn_gF4, zn_gT8, zn_gF8, zn_gT12, zn_gF12, zn_gT48, zn_gF48, zn_gT124, zn_gF124, zn_gT128, zn_gF128, zn_gT560, zn_gF560, zn_lT7, zn_lF7, zn_lT120, zn_lF120, zn_qT7, zn_qF7, zn_qT120, zn_qF120, zn_qT0, zn_qF0, zn_qT1, zn_qF1, zn_hT0, zn_hF0, zn_hT7, zn_hF7, zn_sb, pk_us, zn_us, hq, hf, zn_hT3]
        first | exact ⟨rfl, R⟩ | exact R
      · have hf : fl s = true := by rw [h0.1, decide_eq_true hq]
        have h1 := h0.2 hq
        have e1 : xt s = to s + 1 := h1.1
        have e3 := h1.2.2.1
        have e4 := h1.2.2.2.1
        match c, hc with
        | 0, _ =>
          simp (disch := omega) only [zn_k4, zn_k8, zn_k16, zn_k32, zn_m16, zn_a64, zn_a128, nI_add, nI_1, nI_clamp, vp_in_nI, true_and, and_true, forall_eq, zn_rN, zn_rB, zn_rO, zn_rE, zn_vb0, zn_vb1, zn_b1, zn_b0, zn_d1, zn_d0, zn_e1, zn_e0, zn_wN, zn_wB1, zn_wB0, zn_wO, zn_wOd, zn_wO0, zn_wE, zn_wEe, zn_wE0, zn_leT, zn_leF, zn_ltT, zn_ltF, zn_eqF, zn_eqT, zn_lt0, zn_0le, zn_d2a, zn_d2b, zn_e1a, zn_e1b, zn_10, zn_00, zn_sh4, zn_an15, true_imp_iff, false_imp_iff, imp_true_iff, not_true_eq_false, not_false_eq_true, zn_gT4, zn_gF4, zn_gT8, zn_gF8, zn_gT12, zn_gF12, zn_gT48, zn_gF48, zn_gT124, zn_gF124, zn_gT128, zn_gF128, zn_gT560, zn_gF560, zn_lT7, zn_lF7, zn_lT120, zn_lF120, zn_qT7, zn_qF7, zn_qT120, zn_qF120, zn_qT0, zn_qF0, zn_qT1, zn_qF1, zn_hT0, zn_hF0, zn_hT7, zn_hF7, zn_sb, pk_us, zn_us, hf, e1, zn_hT3, zn_jF2, zn_qT0]
          first | exact ⟨rfl, R⟩ | exact R
        | 1, _ =>
          cases hm0 : sf s with
          | zero =>
            rw [hm0] at e4
            simp (disch := omega) only [zn_k4, zn_k8, zn_k16, zn_k32, zn_m16, zn_a64, zn_a128, nI_add, nI_1, nI_clamp, vp_in_nI, true_and, and_true, forall_eq, zn_rN, zn_rB, zn_rO, zn_rE, zn_vb0, zn_vb1, zn_b1, zn_b0, zn_d1, zn_d0, zn_e1, zn_e0, zn_wN, zn_wB1, zn_wB0, zn_wO, zn_wOd, zn_wO0, zn_wE, zn_wEe, zn_wE0, zn_leT, zn_leF, zn_ltT, zn_ltF, zn_eqF, zn_eqT, zn_lt0, zn_0le, zn_d2a, zn_d2b, zn_e1a, zn_e1b, zn_10, zn_00, zn_sh4, zn_an15, true_imp_iff, false_imp_iff, imp_true_iff, not_true_eq_false, not_false_eq_true, zn_gT4, zn_gF4, zn_gT8, zn_gF8, zn_gT12, zn_gF12, zn_gT48, zn_gF48, zn_gT124, zn_gF124, zn_gT128, zn_gF128, zn_gT560, zn_gF560, zn_lT7, zn_lF7, zn_lT120, zn_lF120, zn_qT7, zn_qF7, zn_qT120, zn_qF120, zn_qT0, zn_qF0, zn_qT1, zn_qF1, zn_hT0, zn_hF0, zn_hT7, zn_hF7, zn_sb, pk_us, zn_us, hf, e1, zn_hT3, zn_jF2, zn_qT0, zn_qF0, zn_qT1, zn_qF2, zn_qF3, hm0, e4]
            first | exact ⟨rfl, R⟩ | exact R
          | succ w =>
            rw [hm0] at e4
            have hw := hb3.1 w
            simp (disch := omega) only [zn_k4, zn_k8, zn_k16, zn_k32, zn_m16, zn_a64, zn_a128, nI_add, nI_1, nI_clamp, vp_in_nI, true_and, and_true, forall_eq, zn_rN, zn_rB, zn_rO, zn_rE, zn_vb0, zn_vb1, zn_b1, zn_b0, zn_d1, zn_d0, zn_e1, zn_e0, zn_wN, zn_wB1, zn_wB0, zn_wO, zn_wOd, zn_wO0, zn_wE, zn_wEe, zn_wE0, zn_leT, zn_leF, zn_ltT, zn_ltF, zn_eqF, zn_eqT, zn_lt0, zn_0le, zn_d2a, zn_d2b, zn_e1a, zn_e1b, zn_10, zn_00, zn_sh4, zn_an15, true_imp_iff, false_imp_iff, imp_true_iff, not_true_eq_false, not_false_eq_true, zn_gT4, zn_gF4, zn_gT8, zn_gF8, zn_gT12, zn_gF12, zn_gT48, zn_gF48, zn_gT124, zn_gF124, zn_gT128, zn_gF128, zn_gT560, zn_gF560, zn_lT7, zn_lF7, zn_lT120, zn_lF120, zn_qT7, zn_qF7, zn_qT120, zn_qF120, zn_qT0, zn_qF0, zn_qT1, zn_qF1, zn_hT0, zn_hF0, zn_hT7, zn_hF7, zn_sb, pk_us, zn_us, hf, e1, zn_hT3, zn_jF2, zn_qT0, zn_qF0, zn_qT1, zn_qF2, zn_qF3, hm0, e4]
            first | exact ⟨rfl, R⟩ | exact R
        | 2, _ =>
          simp (disch := omega) only [zn_k4, zn_k8, zn_k16, zn_k32, zn_m16, zn_a64, zn_a128, nI_add, nI_1, nI_clamp, vp_in_nI, true_and, and_true, forall_eq, zn_rN, zn_rB, zn_rO, zn_rE, zn_vb0, zn_vb1, zn_b1, zn_b0, zn_d1, zn_d0, zn_e1, zn_e0, zn_wN, zn_wB1, zn_wB0, zn_wO, zn_wOd, zn_wO0, zn_wE, zn_wEe, zn_wE0, zn_leT, zn_leF, zn_ltT, zn_ltF, zn_eqF, zn_eqT, zn_lt0, zn_0le, zn_d2a, zn_d2b, zn_e1a, zn_e1b, zn_10, zn_00, zn_sh4, zn_an15, true_imp_iff, false_imp_iff, imp_true_iff, not_true_eq_false, not_false_eq_true, zn_gT4, zn_gF4, zn_gT8, zn_gF8, zn_gT12, zn_gF12, zn_gT48, zn_gF48, zn_gT124, zn_gF124, zn_gT128, zn_gF128, zn_gT560, zn_gF560, zn_lT7, zn_lF7, zn_lT120, zn_lF120, zn_qT7, zn_qF7, zn_qT120, zn_qF120, zn_qT0, zn_qF0, zn_qT1, zn_qF1, zn_hT0, zn_hF0, zn_hT7, zn_hF7, zn_sb, pk_us, zn_us, hf, e1, zn_hT3, zn_jF2, zn_qF0, zn_qF1, zn_qT2]
          first | exact ⟨rfl, R⟩ | exact R
        | 3, _ =>
          simp (disch := omega) only [zn_k4, zn_k8, zn_k16, zn_k32, zn_m16, zn_a64, zn_a128, nI_add, nI_1, nI_clamp, vp_in_nI, true_and, and_true, forall_eq, zn_rN, zn_rB, zn_rO, zn_rE, zn_vb0, zn_vb1, zn_b1, zn_b0, zn_d1, zn_d0, zn_e1, zn_e0, zn_wN, zn_wB1, zn_wB0, zn_wO, zn_wOd, zn_wO0, zn_wE, zn_wEe, zn_wE0, zn_leT, zn_leF, zn_ltT, zn_ltF, zn_eqF, zn_eqT, zn_lt0, zn_0le, zn_d2a, zn_d2b, zn_e1a, zn_e1b, zn_10, zn_00, zn_sh4, zn_an15, true_imp_iff, false_imp_iff, imp_true_iff, not_true_eq_false, not_false_eq_true, zn_gT4, zn_gF4, zn_gT8, zn_gF8, zn_gT12, zn_gF12, zn_gT48, zn_gF48, zn_gT124, zn_gF124, zn_gT128, zn_gF128, zn_gT560, zn_gF560, zn_lT7, zn_lF7, zn_lT120, zn_lF120, zn_qT7, zn_qF7, zn_qT120, zn_qF120, zn_qT0, zn_qF0, zn_qT1, zn_qF1, zn_hT0, zn_hF0, zn_hT7, zn_hF7, zn_sb, pk_us, zn_us, hf, e1, zn_hT3, zn_jT2, zn_qF0, zn_qF1, zn_qF2, zn_qT3]
          first | exact ⟨rfl, R⟩ | exact R
theorem zt_knows {v1 v2 v3 : Int32} (F : zr_F n sc lm sv rl bg ix ic st en xo xp xt xk xl xm gp gi gx go ch to gq gf sf xup yup kn fl xs gs gm gv gr ga xv xrs xrr xra xss P D) : wpX_knows (fun r => wpY_knows (fun r' => r' = r ∧ i_Rel (k + 4) (nI n, nI sc, nI lm, nI sv, nI rl, nI bg, zc_B xup, zc_N ix, zc_N ic, zc_N st, un, rp, dc, xv, zc_B xs, zc_N xo, xrs, xrr, xra, zc_O xp, zc_O xt, xss, sr, sa, zc_N en, zc_N xk, zc_N xl, zc_E xm, op, ol, ov) (nI n, nI sc, nI lm, nI sv, nI bg, nI rl, zc_N gp, zc_N gi, zc_N gx, gv, zc_E gq, zc_E gf, gr, ga, zc_N go, zc_B gs, zc_B gm, zc_B yp, zc_B yup, zc_N ix, zc_N ic, zc_N st, un, rp, dc, zc_N ch, zc_N en, zc_B kn, zc_B fl, zc_N to, zc_E sf, sr, sa, op, ol, ov)) (nI n, nI sc, nI lm, nI sv, nI bg, nI rl, zc_N gp, zc_N gi, zc_N gx, gv, zc_E gq, zc_E gf, gr, ga, zc_N go, zc_B gs, zc_B gm, zc_B yp, zc_B yup, zc_N ix, zc_N ic, zc_N st, un, rp, dc, zc_N ch, zc_N en, zc_B kn, zc_B fl, zc_N to, zc_E sf, sr, sa, op, ol, ov) v1 v2 v3) (nI n, nI sc, nI lm, nI sv, nI rl, nI bg, zc_B xup, zc_N ix, zc_N ic, zc_N st, un, rp, dc, xv, zc_B xs, zc_N xo, xrs, xrr, xra, zc_O xp, zc_O xt, xss, sr, sa, zc_N en, zc_N xk, zc_N xl, zc_E xm, op, ol, ov) v1 v2 v3 := by
  have R : i_Rel (k + 4) (nI n, nI sc, nI lm, nI sv, nI rl, nI bg, zc_B xup, zc_N ix, zc_N ic, zc_N st, un, rp, dc, xv, zc_B xs, zc_N xo, xrs, xrr, xra, zc_O xp, zc_O xt, xss, sr, sa, zc_N en, zc_N xk, zc_N xl, zc_E xm, op, ol, ov) (nI n, nI sc, nI lm, nI sv, nI bg, nI rl, zc_N gp, zc_N gi, zc_N gx, gv, zc_E gq, zc_E gf, gr, ga, zc_N go, zc_B gs, zc_B gm, zc_B yp, zc_B yup, zc_N ix, zc_N ic, zc_N st, un, rp, dc, zc_N ch, zc_N en, zc_B kn, zc_B fl, zc_N to, zc_E sf, sr, sa, op, ol, ov) := zr_mk F
  obtain ⟨hnum, hb1, hb2, hb3, hup, hk1, hk2, hG, hiv, hD, hcur, hch, hK, hv, hd, hsl, hm, hsm, hfr, hsv⟩ := F
  obtain ⟨hn, hsc, hlm, hsvn, hrl, hbg⟩ := hnum
  unfold wpX_knows wpY_knows wpX_isProcess wpY_isProcess
  rcases pk_ix v1 (n := n) (by omega) with h | h | ⟨r, hr, rfl⟩
  · rcases pk_ix v2 (n := n) (by omega) with h' | h' | ⟨x, hx, rfl⟩
    · simp (disch := omega) only [zn_k4, zn_k8, zn_k16, zn_k32, zn_m16, zn_a64, zn_a128, nI_add, nI_1, nI_clamp, vp_in_nI, true_and, and_true, forall_eq, zn_rN, zn_rB, zn_rO, zn_rE, zn_vb0, zn_vb1, zn_b1, zn_b0, zn_d1, zn_d0, zn_e1, zn_e0, zn_wN, zn_wB1, zn_wB0, zn_wO, zn_wOd, zn_wO0, zn_wE, zn_wEe, zn_wE0, zn_leT, zn_leF, zn_ltT, zn_ltF, zn_eqF, zn_eqT, zn_lt0, zn_0le, zn_d2a, zn_d2b, zn_e1a, zn_e1b, zn_10, zn_00, zn_sh4, zn_an15, true_imp_iff, false_imp_iff, imp_true_iff, not_true_eq_false, not_false_eq_true, zn_gT4, zn_gF4, zn_gT8, zn_gF8, zn_gT12, zn_gF12, zn_gT48, zn_gF48, zn_gT124, zn_gF124, zn_gT128, zn_gF128, zn_gT560, zn_gF560, zn_lT7, zn_lF7, zn_lT120, zn_lF120, zn_qT7, zn_qF7, zn_qT120, zn_qF120, zn_qT0, zn_qF0, zn_qT1, zn_qF1, zn_hT0, zn_hF0, zn_hT7, zn_hF7, zn_sb, pk_us, zn_us, h, h']
      first | exact ⟨rfl, R⟩ | exact R
    · simp (disch := omega) only [zn_k4, zn_k8, zn_k16, zn_k32, zn_m16, zn_a64, zn_a128, nI_add, nI_1, nI_clamp, vp_in_nI, true_and, and_true, forall_eq, zn_rN, zn_rB, zn_rO, zn_rE, zn_vb0, zn_vb1, zn_b1, zn_b0, zn_d1, zn_d0, zn_e1, zn_e0, zn_wN, zn_wB1, zn_wB0, zn_wO, zn_wOd, zn_wO0, zn_wE, zn_wEe, zn_wE0, zn_leT, zn_leF, zn_ltT, zn_ltF, zn_eqF, zn_eqT, zn_lt0, zn_0le, zn_d2a, zn_d2b, zn_e1a, zn_e1b, zn_10, zn_00, zn_sh4, zn_an15, true_imp_iff, false_imp_iff, imp_true_iff, not_true_eq_false, not_false_eq_true, zn_gT4, zn_gF4, zn_gT8, zn_gF8, zn_gT12, zn_gF12, zn_gT48, zn_gF48, zn_gT124, zn_gF124, zn_gT128, zn_gF128, zn_gT560, zn_gF560, zn_lT7, zn_lF7, zn_lT120, zn_lF120, zn_qT7, zn_qF7, zn_qT120, zn_qF120, zn_qT0, zn_qF0, zn_qT1, zn_qF1, zn_hT0, zn_hF0, zn_hT7, zn_hF7, zn_sb, pk_us, zn_us, h, h', zr_nn h' (by omega)]
      first | exact ⟨rfl, R⟩ | exact R
    · simp (disch := omega) only [zn_k4, zn_k8, zn_k16, zn_k32, zn_m16, zn_a64, zn_a128, nI_add, nI_1, nI_clamp, vp_in_nI, true_and, and_true, forall_eq, zn_rN, zn_rB, zn_rO, zn_rE, zn_vb0, zn_vb1, zn_b1, zn_b0, zn_d1, zn_d0, zn_e1, zn_e0, zn_wN, zn_wB1, zn_wB0, zn_wO, zn_wOd, zn_wO0, zn_wE, zn_wEe, zn_wE0, zn_leT, zn_leF, zn_ltT, zn_ltF, zn_eqF, zn_eqT, zn_lt0, zn_0le, zn_d2a, zn_d2b, zn_e1a, zn_e1b, zn_10, zn_00, zn_sh4, zn_an15, true_imp_iff, false_imp_iff, imp_true_iff, not_true_eq_false, not_false_eq_true, zn_gT4, zn_gF4, zn_gT8, zn_gF8, zn_gT12, zn_gF12, zn_gT48, zn_gF48, zn_gT124, zn_gF124, zn_gT128, zn_gF128, zn_gT560, zn_gF560, zn_lT7, zn_lF7, zn_lT120, zn_lF120, zn_qT7, zn_qF7, zn_qT120, zn_qF120, zn_qT0, zn_qF0, zn_qT1, zn_qF1, zn_hT0, zn_hF0, zn_hT7, zn_hF7, zn_sb, pk_us, zn_us, h]
      first | exact ⟨rfl, R⟩ | exact R
  · rcases pk_ix v2 (n := n) (by omega) with h' | h' | ⟨x, hx, rfl⟩
    · simp (disch := omega) only [zn_k4, zn_k8, zn_k16, zn_k32, zn_m16, zn_a64, zn_a128, nI_add, nI_1, nI_clamp, vp_in_nI, true_and, and_true, forall_eq, zn_rN, zn_rB, zn_rO, zn_rE, zn_vb0, zn_vb1, zn_b1, zn_b0, zn_d1, zn_d0, zn_e1, zn_e0, zn_wN, zn_wB1, zn_wB0, zn_wO, zn_wOd, zn_wO0, zn_wE, zn_wEe, zn_wE0, zn_leT, zn_leF, zn_ltT, zn_ltF, zn_eqF, zn_eqT, zn_lt0, zn_0le, zn_d2a, zn_d2b, zn_e1a, zn_e1b, zn_10, zn_00, zn_sh4, zn_an15, true_imp_iff, false_imp_iff, imp_true_iff, not_true_eq_false, not_false_eq_true, zn_gT4, zn_gF4, zn_gT8, zn_gF8, zn_gT12, zn_gF12, zn_gT48, zn_gF48, zn_gT124, zn_gF124, zn_gT128, zn_gF128, zn_gT560, zn_gF560, zn_lT7, zn_lF7, zn_lT120, zn_lF120, zn_qT7, zn_qF7, zn_qT120, zn_qF120, zn_qT0, zn_qF0, zn_qT1, zn_qF1, zn_hT0, zn_hF0, zn_hT7, zn_hF7, zn_sb, pk_us, zn_us, h, h', zr_nn h (by omega)]
      first | exact ⟨rfl, R⟩ | exact R
    · simp (disch := omega) only [zn_k4, zn_k8, zn_k16, zn_k32, zn_m16, zn_a64, zn_a128, nI_add, nI_1, nI_clamp, vp_in_nI, true_and, and_true, forall_eq, zn_rN, zn_rB, zn_rO, zn_rE, zn_vb0, zn_vb1, zn_b1, zn_b0, zn_d1, zn_d0, zn_e1, zn_e0, zn_wN, zn_wB1, zn_wB0, zn_wO, zn_wOd, zn_wO0, zn_wE, zn_wEe, zn_wE0, zn_leT, zn_leF, zn_ltT, zn_ltF, zn_eqF, zn_eqT, zn_lt0, zn_0le, zn_d2a, zn_d2b, zn_e1a, zn_e1b, zn_10, zn_00, zn_sh4, zn_an15, true_imp_iff, false_imp_iff, imp_true_iff, not_true_eq_false, not_false_eq_true, zn_gT4, zn_gF4, zn_gT8, zn_gF8, zn_gT12, zn_gF12, zn_gT48, zn_gF48, zn_gT124, zn_gF124, zn_gT128, zn_gF128, zn_gT560, zn_gF560, zn_lT7, zn_lF7, zn_lT120, zn_lF120, zn_qT7, zn_qF7, zn_qT120, zn_qF120, zn_qT0, zn_qF0, zn_qT1, zn_qF1, zn_hT0, zn_hF0, zn_hT7, zn_hF7, zn_sb, pk_us, zn_us, h, h', zr_nn h (by omega), zr_nn h' (by omega)]
      first | exact ⟨rfl, R⟩ | exact R
    · simp (disch := omega) only [zn_k4, zn_k8, zn_k16, zn_k32, zn_m16, zn_a64, zn_a128, nI_add, nI_1, nI_clamp, vp_in_nI, true_and, and_true, forall_eq, zn_rN, zn_rB, zn_rO, zn_rE, zn_vb0, zn_vb1, zn_b1, zn_b0, zn_d1, zn_d0, zn_e1, zn_e0, zn_wN, zn_wB1, zn_wB0, zn_wO, zn_wOd, zn_wO0, zn_wE, zn_wEe, zn_wE0, zn_leT, zn_leF, zn_ltT, zn_ltF, zn_eqF, zn_eqT, zn_lt0, zn_0le, zn_d2a, zn_d2b, zn_e1a, zn_e1b, zn_10, zn_00, zn_sh4, zn_an15, true_imp_iff, false_imp_iff, imp_true_iff, not_true_eq_false, not_false_eq_true, zn_gT4, zn_gF4, zn_gT8, zn_gF8, zn_gT12, zn_gF12, zn_gT48, zn_gF48, zn_gT124, zn_gF124, zn_gT128, zn_gF128, zn_gT560, zn_gF560, zn_lT7, zn_lF7, zn_lT120, zn_lF120, zn_qT7, zn_qF7, zn_qT120, zn_qF120, zn_qT0, zn_qF0, zn_qT1, zn_qF1, zn_hT0, zn_hF0, zn_hT7, zn_hF7, zn_sb, pk_us, zn_us, h, zr_nn h (by omega)]
      first | exact ⟨rfl, R⟩ | exact R
  · rcases pk_ix v2 (n := n) (by omega) with h' | h' | ⟨x, hx, rfl⟩
    · simp (disch := omega) only [zn_k4, zn_k8, zn_k16, zn_k32, zn_m16, zn_a64, zn_a128, nI_add, nI_1, nI_clamp, vp_in_nI, true_and, and_true, forall_eq, zn_rN, zn_rB, zn_rO, zn_rE, zn_vb0, zn_vb1, zn_b1, zn_b0, zn_d1, zn_d0, zn_e1, zn_e0, zn_wN, zn_wB1, zn_wB0, zn_wO, zn_wOd, zn_wO0, zn_wE, zn_wEe, zn_wE0, zn_leT, zn_leF, zn_ltT, zn_ltF, zn_eqF, zn_eqT, zn_lt0, zn_0le, zn_d2a, zn_d2b, zn_e1a, zn_e1b, zn_10, zn_00, zn_sh4, zn_an15, true_imp_iff, false_imp_iff, imp_true_iff, not_true_eq_false, not_false_eq_true, zn_gT4, zn_gF4, zn_gT8, zn_gF8, zn_gT12, zn_gF12, zn_gT48, zn_gF48, zn_gT124, zn_gF124, zn_gT128, zn_gF128, zn_gT560, zn_gF560, zn_lT7, zn_lF7, zn_lT120, zn_lF120, zn_qT7, zn_qF7, zn_qT120, zn_qF120, zn_qT0, zn_qF0, zn_qT1, zn_qF1, zn_hT0, zn_hF0, zn_hT7, zn_hF7, zn_sb, pk_us, zn_us, h']
      first | exact ⟨rfl, R⟩ | exact R
    · simp (disch := omega) only [zn_k4, zn_k8, zn_k16, zn_k32, zn_m16, zn_a64, zn_a128, nI_add, nI_1, nI_clamp, vp_in_nI, true_and, and_true, forall_eq, zn_rN, zn_rB, zn_rO, zn_rE, zn_vb0, zn_vb1, zn_b1, zn_b0, zn_d1, zn_d0, zn_e1, zn_e0, zn_wN, zn_wB1, zn_wB0, zn_wO, zn_wOd, zn_wO0, zn_wE, zn_wEe, zn_wE0, zn_leT, zn_leF, zn_ltT, zn_ltF, zn_eqF, zn_eqT, zn_lt0, zn_0le, zn_d2a, zn_d2b, zn_e1a, zn_e1b, zn_10, zn_00, zn_sh4, zn_an15, true_imp_iff, false_imp_iff, imp_true_iff, not_true_eq_false, not_false_eq_true, zn_gT4, zn_gF4, zn_gT8, zn_gF8, zn_gT12, zn_gF12, zn_gT48, zn_gF48, zn_gT124, zn_gF124, zn_gT128, zn_gF128, zn_gT560, zn_gF560, zn_lT7, zn_lF7, zn_lT120, zn_lF120, zn_qT7, zn_qF7, zn_qT120, zn_qF120, zn_qT0, zn_qF0, zn_qT1, zn_qF1, zn_hT0, zn_hF0, zn_hT7, zn_hF7, zn_sb, pk_us, zn_us, h', zr_nn h' (by omega)]
      first | exact ⟨rfl, R⟩ | exact R
    · rcases pk_ix v3 (n := 8) (by omega) with h | h | ⟨c, hc, rfl⟩
      · simp (disch := omega) only [zn_k4, zn_k8, zn_k16, zn_k32, zn_m16, zn_a64, zn_a128, nI_add, nI_1, nI_clamp, vp_in_nI, true_and, and_true, forall_eq, zn_rN, zn_rB, zn_rO, zn_rE, zn_vb0, zn_vb1, zn_b1, zn_b0, zn_d1, zn_d0, zn_e1, zn_e0, zn_wN, zn_wB1, zn_wB0, zn_wO, zn_wOd, zn_wO0, zn_wE, zn_wEe, zn_wE0, zn_leT, zn_leF, zn_ltT, zn_ltF, zn_eqF, zn_eqT, zn_lt0, zn_0le, zn_d2a, zn_d2b, zn_e1a, zn_e1b, zn_10, zn_00, zn_sh4, zn_an15, true_imp_iff, false_imp_iff, imp_true_iff, not_true_eq_false, not_false_eq_true, zn_gT4, zn_gF4, zn_gT8, zn_gF8, zn_gT12, zn_gF12, zn_gT48, zn_gF48, zn_gT124, zn_gF124, zn_gT128, zn_gF128, zn_gT560, zn_gF560, zn_lT7, zn_lF7, zn_lT120, zn_lF120, zn_qT7, zn_qF7, zn_qT120, zn_qF120, zn_qT0, zn_qF0, zn_qT1, zn_qF1, zn_hT0, zn_hF0, zn_hT7, zn_hF7, zn_sb, pk_us, zn_us, h]
        first | exact ⟨rfl, R⟩ | exact R
      · have h7 := zr_le (n := 8) (a := 7) h (by omega) (by omega)
        rw [show nI 7 = 7 from rfl] at h7
        simp (disch := omega) only [zn_k4, zn_k8, zn_k16, zn_k32, zn_m16, zn_a64, zn_a128, nI_add, nI_1, nI_clamp, vp_in_nI, true_and, and_true, forall_eq, zn_rN, zn_rB, zn_rO, zn_rE, zn_vb0, zn_vb1, zn_b1, zn_b0, zn_d1, zn_d0, zn_e1, zn_e0, zn_wN, zn_wB1, zn_wB0, zn_wO, zn_wOd, zn_wO0, zn_wE, zn_wEe, zn_wE0, zn_leT, zn_leF, zn_ltT, zn_ltF, zn_eqF, zn_eqT, zn_lt0, zn_0le, zn_d2a, zn_d2b, zn_e1a, zn_e1b, zn_10, zn_00, zn_sh4, zn_an15, true_imp_iff, false_imp_iff, imp_true_iff, not_true_eq_false, not_false_eq_true, zn_gT4, zn_gF4, zn_gT8, zn_gF8, zn_gT12, zn_gF12, zn_gT48, zn_gF48, zn_gT124, zn_gF124, zn_gT128, zn_gF128, zn_gT560, zn_gF560, zn_lT7, zn_lF7, zn_lT120, zn_lF120, zn_qT7, zn_qF7, zn_qT120, zn_qF120, zn_qT0, zn_qF0, zn_qT1, zn_qF1, zn_hT0, zn_hF0, zn_hT7, zn_hF7, zn_sb, pk_us, zn_us, h7, zr_nn (n := 8) h (by omega)]
        first | exact ⟨rfl, R⟩ | exact R
      · have hb := zn_bit (hb2.2.2.2.1 (r * 4 + x)) hc
        rw [(hk1 r x hr hx).2.1 c hc] at hb
        cases hkn : kn (r * 32 + x * 8 + c) with
        | false =>
          simp (disch := omega) only [zn_k4, zn_k8, zn_k16, zn_k32, zn_m16, zn_a64, zn_a128, nI_add, nI_1, nI_clamp, vp_in_nI, true_and, and_true, forall_eq, zn_rN, zn_rB, zn_rO, zn_rE, zn_vb0, zn_vb1, zn_b1, zn_b0, zn_d1, zn_d0, zn_e1, zn_e0, zn_wN, zn_wB1, zn_wB0, zn_wO, zn_wOd, zn_wO0, zn_wE, zn_wEe, zn_wE0, zn_leT, zn_leF, zn_ltT, zn_ltF, zn_eqF, zn_eqT, zn_lt0, zn_0le, zn_d2a, zn_d2b, zn_e1a, zn_e1b, zn_10, zn_00, zn_sh4, zn_an15, true_imp_iff, false_imp_iff, imp_true_iff, not_true_eq_false, not_false_eq_true, zn_gT4, zn_gF4, zn_gT8, zn_gF8, zn_gT12, zn_gF12, zn_gT48, zn_gF48, zn_gT124, zn_gF124, zn_gT128, zn_gF128, zn_gT560, zn_gF560, zn_lT7, zn_lF7, zn_lT120, zn_lF120, zn_qT7, zn_qF7, zn_qT120, zn_qF120, zn_qT0, zn_qF0, zn_qT1, zn_qF1, zn_hT0, zn_hF0, zn_hT7, zn_hF7, zn_sb, pk_us, zn_us, eq_true (hb.mpr hkn), hkn, narrow_b0]
          first | exact ⟨rfl, R⟩ | exact R
        | true =>
          simp (disch := omega) only [zn_k4, zn_k8, zn_k16, zn_k32, zn_m16, zn_a64, zn_a128, nI_add, nI_1, nI_clamp, vp_in_nI, true_and, and_true, forall_eq, zn_rN, zn_rB, zn_rO, zn_rE, zn_vb0, zn_vb1, zn_b1, zn_b0, zn_d1, zn_d0, zn_e1, zn_e0, zn_wN, zn_wB1, zn_wB0, zn_wO, zn_wOd, zn_wO0, zn_wE, zn_wEe, zn_wE0, zn_leT, zn_leF, zn_ltT, zn_ltF, zn_eqF, zn_eqT, zn_lt0, zn_0le, zn_d2a, zn_d2b, zn_e1a, zn_e1b, zn_10, zn_00, zn_sh4, zn_an15, true_imp_iff, false_imp_iff, imp_true_iff, not_true_eq_false, not_false_eq_true, zn_gT4, zn_gF4, zn_gT8, zn_gF8, zn_gT12, zn_gF12, zn_gT48, zn_gF48, zn_gT124, zn_gF124, zn_gT128, zn_gF128, zn_gT560, zn_gF560, zn_lT7, zn_lF7, zn_lT120, zn_lF120, zn_qT7, zn_qF7, zn_qT120, zn_qF120, zn_qT0, zn_qF0, zn_qT1, zn_qF1, zn_hT0, zn_hF0, zn_hT7, zn_hF7, zn_sb, pk_us, zn_us, eq_false (fun z => by rw [hb.mp z] at hkn; exact absurd hkn (by decide)), hkn, narrow_b1]
          first | exact ⟨rfl, R⟩ | exact R
theorem zx_seen_l {post : Int32 → Prop} {r x m : Nat} (hr : r < 4) (hx : x < 4) (hm : m ≤ 12) (hxp : ∀ j, xp j ≤ 128) (hxm : ∀ j, xm j ≤ 13) (hl : ∀ j, j ≤ m → xp ((x * 16 + j) * 4 + x) ≠ 0) : ∀ d i c, c ≤ i → i + d = m + 1 → post (nI (c + zf_cnt (fun j => decide ((xp ((x * 16 + j) * 4 + x) - 1) % 16 < xm ((r * 4 + x) * 8 + (xp ((x * 16 + j) * 4 + x) - 1) / 16))) d i)) → wX_seen_45 post (nI r) (nI x) (nI m) (nI n) (nI sc) (nI lm) (nI sv) (nI rl) (nI bg) (zc_B xup) (zc_N ix) (zc_N ic) (zc_N st) un rp dc xv (zc_B xs) (zc_N xo) xrs xrr xra (zc_O xp) (zc_O xt) xss sr sa (zc_N en) (zc_N xk) (zc_N xl) (zc_E xm) op ol ov (d + 1) (nI c) (nI i) := by
  intro d
  induction d with
  | zero =>
    intro i c hc h hp
    exact br_t (nI_lt (by omega) (by omega)) hp
  | succ d ih =>
    intro i c hc h hp
    rw [zf_cnt_s] at hp
    have hb := hxp ((x * 16 + i) * 4 + x)
    have h0 := hl i (by omega)
    obtain ⟨l, e⟩ : ∃ l, xp ((x * 16 + i) * 4 + x) = l + 1 := ⟨xp ((x * 16 + i) * 4 + x) - 1, by omega⟩
    rw [e, Nat.add_sub_cancel] at hp
    rw [wX_seen_45]
    simp (disch := omega) only [zn_k4, zn_k8, zn_k16, zn_k32, zn_m16, zn_a64, zn_a128, nI_add, nI_1, nI_clamp, vp_in_nI, true_and, and_true, forall_eq, zn_rN, zn_rB, zn_rO, zn_rE, zn_vb0, zn_vb1, zn_b1, zn_b0, zn_d1, zn_d0, zn_e1, zn_e0, zn_wN, zn_wB1, zn_wB0, zn_wO, zn_wOd, zn_wO0, zn_wE, zn_wEe, zn_wE0, zn_leT, zn_leF, zn_ltT, zn_ltF, zn_eqF, zn_eqT, zn_lt0, zn_0le, zn_d2a, zn_d2b, zn_e1a, zn_e1b, zn_10, zn_00, zn_sh4, zn_an15, true_imp_iff, false_imp_iff, imp_true_iff, not_true_eq_false, not_false_eq_true, zn_gT4, zn_gF4, zn_gT8, zn_gF8, zn_gT12, zn_gF12, zn_gT48, zn_gF48, zn_gT124, zn_gF124, zn_gT128, zn_gF128, zn_gT560, zn_gF560, zn_lT7, zn_lF7, zn_lT120, zn_lF120, zn_qT7, zn_qF7, zn_qT120, zn_qF120, zn_qT0, zn_qF0, zn_qT1, zn_qF1, zn_hT0, zn_hF0, zn_hT7, zn_hF7, zn_sb, pk_us, zn_us, e]
    refine zx_marked hr hx (by omega) hxm ?_
    by_cases hq : l % 16 < xm ((r * 4 + x) * 8 + l / 16)
    · rw [if_pos (decide_eq_true hq), ← Nat.add_assoc] at hp
      rw [decide_eq_true hq]
      simp (disch := omega) only [zn_k4, zn_k8, zn_k16, zn_k32, zn_m16, zn_a64, zn_a128, nI_add, nI_1, nI_clamp, vp_in_nI, true_and, and_true, forall_eq, zn_rN, zn_rB, zn_rO, zn_rE, zn_vb0, zn_vb1, zn_b1, zn_b0, zn_d1, zn_d0, zn_e1, zn_e0, zn_wN, zn_wB1, zn_wB0, zn_wO, zn_wOd, zn_wO0, zn_wE, zn_wEe, zn_wE0, zn_leT, zn_leF, zn_ltT, zn_ltF, zn_eqF, zn_eqT, zn_lt0, zn_0le, zn_d2a, zn_d2b, zn_e1a, zn_e1b, zn_10, zn_00, zn_sh4, zn_an15, true_imp_iff, false_imp_iff, imp_true_iff, not_true_eq_false, not_false_eq_true, zn_gT4, zn_gF4, zn_gT8, zn_gF8, zn_gT12, zn_gF12, zn_gT48, zn_gF48, zn_gT124, zn_gF124, zn_gT128, zn_gF128, zn_gT560, zn_gF560, zn_lT7, zn_lF7, zn_lT120, zn_lF120, zn_qT7, zn_qF7, zn_qT120, zn_qF120, zn_qT0, zn_qF0, zn_qT1, zn_qF1, zn_hT0, zn_hF0, zn_hT7, zn_hF7, zn_sb, pk_us, zn_us]
      exact ih (i + 1) (c + 1) (by omega) (by omega) hp
    · rw [if_neg (by rw [decide_eq_true_eq]; exact hq), Nat.zero_add] at hp
      rw [decide_eq_false hq]
      simp (disch := omega) only [zn_k4, zn_k8, zn_k16, zn_k32, zn_m16, zn_a64, zn_a128, nI_add, nI_1, nI_clamp, vp_in_nI, true_and, and_true, forall_eq, zn_rN, zn_rB, zn_rO, zn_rE, zn_vb0, zn_vb1, zn_b1, zn_b0, zn_d1, zn_d0, zn_e1, zn_e0, zn_wN, zn_wB1, zn_wB0, zn_wO, zn_wOd, zn_wO0, zn_wE, zn_wEe, zn_wE0, zn_leT, zn_leF, zn_ltT, zn_ltF, zn_eqF, zn_eqT, zn_lt0, zn_0le, zn_d2a, zn_d2b, zn_e1a, zn_e1b, zn_10, zn_00, zn_sh4, zn_an15, true_imp_iff, false_imp_iff, imp_true_iff, not_true_eq_false, not_false_eq_true, zn_gT4, zn_gF4, zn_gT8, zn_gF8, zn_gT12, zn_gF12, zn_gT48, zn_gF48, zn_gT124, zn_gF124, zn_gT128, zn_gF128, zn_gT560, zn_gF560, zn_lT7, zn_lF7, zn_lT120, zn_lF120, zn_qT7, zn_qF7, zn_qT120, zn_qF120, zn_qT0, zn_qF0, zn_qT1, zn_qF1, zn_hT0, zn_hF0, zn_hT7, zn_hF7, zn_sb, pk_us, zn_us]
      exact ih (i + 1) c (by omega) (by omega) hp
/-- the mark of a chain's interval, both ways -/
theorem zr_mkq {N r x j : Nat} (hn : n ≤ 4) (hb3 : zr_b3 gp gi gx go ch to) (hch : zr_ch n N ix ic ch en gp gi gx P) (hD : zr_D n N gp gi gx en P D) (hv : zr_v n ix ch gf xp D) (hm : zr_m n N gm xm gp gi gx en) (hr : r < n) (hx : x < n) (hrx : x ≠ r) (hj : j ≤ ix x) : xp ((x * 16 + j) * 4 + x) = 16 * gi (ch (x * 16 + j)) + j + 1 ∧ decide ((xp ((x * 16 + j) * 4 + x) - 1) % 16 < xm ((r * 4 + x) * 8 + (xp ((x * 16 + j) * 4 + x) - 1) / 16)) = gm (ch (x * 16 + j) * 4 + r) := by
  have h0 := hch.1 x j hx hj
  have h1 := hD.2.2.2 _ h0.1
  rw [h0.2.1] at h1
  have hl := zr_lz hb3.2.2.1 h1
  have h2 := (hv x j x hx hj (by omega)).1
  have h3 := hm.1 r _ hr h0.1 (by rw [h0.2.1]; exact hrx)
  rw [h0.2.1] at h3
  rw [h2, hl.1, hl.2]
  refine ⟨by rw [h1, h0.2.2.1], zr_bx ?_⟩
  rw [decide_eq_true_eq]
  exact h3.symm
theorem zt_seen {v1 v2 : Int32} (F : zr_F n sc lm sv rl bg ix ic st en xo xp xt xk xl xm gp gi gx go ch to gq gf sf xup yup kn fl xs gs gm gv gr ga xv xrs xrr xra xss P D) : wpX_seen (fun r => wpY_seen (fun r' => r' = r ∧ i_Rel (k + 4) (nI n, nI sc, nI lm, nI sv, nI rl, nI bg, zc_B xup, zc_N ix, zc_N ic, zc_N st, un, rp, dc, xv, zc_B xs, zc_N xo, xrs, xrr, xra, zc_O xp, zc_O xt, xss, sr, sa, zc_N en, zc_N xk, zc_N xl, zc_E xm, op, ol, ov) (nI n, nI sc, nI lm, nI sv, nI bg, nI rl, zc_N gp, zc_N gi, zc_N gx, gv, zc_E gq, zc_E gf, gr, ga, zc_N go, zc_B gs, zc_B gm, zc_B yp, zc_B yup, zc_N ix, zc_N ic, zc_N st, un, rp, dc, zc_N ch, zc_N en, zc_B kn, zc_B fl, zc_N to, zc_E sf, sr, sa, op, ol, ov)) (nI n, nI sc, nI lm, nI sv, nI bg, nI rl, zc_N gp, zc_N gi, zc_N gx, gv, zc_E gq, zc_E gf, gr, ga, zc_N go, zc_B gs, zc_B gm, zc_B yp, zc_B yup, zc_N ix, zc_N ic, zc_N st, un, rp, dc, zc_N ch, zc_N en, zc_B kn, zc_B fl, zc_N to, zc_E sf, sr, sa, op, ol, ov) v1 v2) (nI n, nI sc, nI lm, nI sv, nI rl, nI bg, zc_B xup, zc_N ix, zc_N ic, zc_N st, un, rp, dc, xv, zc_B xs, zc_N xo, xrs, xrr, xra, zc_O xp, zc_O xt, xss, sr, sa, zc_N en, zc_N xk, zc_N xl, zc_E xm, op, ol, ov) v1 v2 := by
  have R : i_Rel (k + 4) (nI n, nI sc, nI lm, nI sv, nI rl, nI bg, zc_B xup, zc_N ix, zc_N ic, zc_N st, un, rp, dc, xv, zc_B xs, zc_N xo, xrs, xrr, xra, zc_O xp, zc_O xt, xss, sr, sa, zc_N en, zc_N xk, zc_N xl, zc_E xm, op, ol, ov) (nI n, nI sc, nI lm, nI sv, nI bg, nI rl, zc_N gp, zc_N gi, zc_N gx, gv, zc_E gq, zc_E gf, gr, ga, zc_N go, zc_B gs, zc_B gm, zc_B yp, zc_B yup, zc_N ix, zc_N ic, zc_N st, un, rp, dc, zc_N ch, zc_N en, zc_B kn, zc_B fl, zc_N to, zc_E sf, sr, sa, op, ol, ov) := zr_mk F
  obtain ⟨hnum, hb1, hb2, hb3, hup, hk1, hk2, hG, hiv, hD, hcur, hch, hK, hv, hd, hsl, hm, hsm, hfr, hsv⟩ := F
  obtain ⟨hn, hsc, hlm, hsvn, hrl, hbg⟩ := hnum
  have hix12 : ∀ j, ix j ≤ 12 := fun j => Nat.le_trans (hb1.1 j) hlm.2
  rcases pk_ix v1 (n := n) (by omega) with h | h | ⟨r, hr, rfl⟩
  · unfold wpX_seen wpX_isProcess wpY_seen wpY_isProcess
    simp (disch := omega) only [zn_k4, zn_k8, zn_k16, zn_k32, zn_m16, zn_a64, zn_a128, nI_add, nI_1, nI_clamp, vp_in_nI, true_and, and_true, forall_eq, zn_rN, zn_rB, zn_rO, zn_rE, zn_vb0, zn_vb1, zn_b1, zn_b0, zn_d1, zn_d0, zn_e1, zn_e0, zn_wN, zn_wB1, zn_wB0, zn_wO, zn_wOd, zn_wO0, zn_wE, zn_wEe, zn_wE0, zn_leT, zn_leF, zn_ltT, zn_ltF, zn_eqF, zn_eqT, zn_lt0, zn_0le, zn_d2a, zn_d2b, zn_e1a, zn_e1b, zn_10, zn_00, zn_sh4, zn_an15, true_imp_iff, false_imp_iff, imp_true_iff, not_true_eq_false, not_false_eq_true, zn_gT4, zn_gF4, zn_gT8, zn_gF8, zn_gT12, zn_gF12, zn_gT48, zn_gF48, zn_gT124, zn_gF124, zn_gT128, zn_gF128, zn_gT560, zn_gF560, zn_lT7, zn_lF7, zn_lT120, zn_lF120, zn_qT7, zn_qF7, zn_qT120, zn_qF120, zn_qT0, zn_qF0, zn_qT1, zn_qF1, zn_hT0, zn_hF0, zn_hT7, zn_hF7, zn_sb, pk_us, zn_us, h]
    first | exact ⟨rfl, R⟩ | exact R
  · unfold wpX_seen wpX_isProcess wpY_seen wpY_isProcess
    simp (disch := omega) only [zn_k4, zn_k8, zn_k16, zn_k32, zn_m16, zn_a64, zn_a128, nI_add, nI_1, nI_clamp, vp_in_nI, true_and, and_true, forall_eq, zn_rN, zn_rB, zn_rO, zn_rE, zn_vb0, zn_vb1, zn_b1, zn_b0, zn_d1, zn_d0, zn_e1, zn_e0, zn_wN, zn_wB1, zn_wB0, zn_wO, zn_wOd, zn_wO0, zn_wE, zn_wEe, zn_wE0, zn_leT, zn_leF, zn_ltT, zn_ltF, zn_eqF, zn_eqT, zn_lt0, zn_0le, zn_d2a, zn_d2b, zn_e1a, zn_e1b, zn_10, zn_00, zn_sh4, zn_an15, true_imp_iff, false_imp_iff, imp_true_iff, not_true_eq_false, not_false_eq_true, zn_gT4, zn_gF4, zn_gT8, zn_gF8, zn_gT12, zn_gF12, zn_gT48, zn_gF48, zn_gT124, zn_gF124, zn_gT128, zn_gF128, zn_gT560, zn_gF560, zn_lT7, zn_lF7, zn_lT120, zn_lF120, zn_qT7, zn_qF7, zn_qT120, zn_qF120, zn_qT0, zn_qF0, zn_qT1, zn_qF1, zn_hT0, zn_hF0, zn_hT7, zn_hF7, zn_sb, pk_us, zn_us, h, zr_nn h (by omega)]
    first | exact ⟨rfl, R⟩ | exact R
  · rcases pk_ix v2 (n := n) (by omega) with h' | h' | ⟨x, hx, rfl⟩
    · unfold wpX_seen wpX_isProcess wpY_seen wpY_isProcess
      simp (disch := omega) only [zn_k4, zn_k8, zn_k16, zn_k32, zn_m16, zn_a64, zn_a128, nI_add, nI_1, nI_clamp, vp_in_nI, true_and, and_true, forall_eq, zn_rN, zn_rB, zn_rO, zn_rE, zn_vb0, zn_vb1, zn_b1, zn_b0, zn_d1, zn_d0, zn_e1, zn_e0, zn_wN, zn_wB1, zn_wB0, zn_wO, zn_wOd, zn_wO0, zn_wE, zn_wEe, zn_wE0, zn_leT, zn_leF, zn_ltT, zn_ltF, zn_eqF, zn_eqT, zn_lt0, zn_0le, zn_d2a, zn_d2b, zn_e1a, zn_e1b, zn_10, zn_00, zn_sh4, zn_an15, true_imp_iff, false_imp_iff, imp_true_iff, not_true_eq_false, not_false_eq_true, zn_gT4, zn_gF4, zn_gT8, zn_gF8, zn_gT12, zn_gF12, zn_gT48, zn_gF48, zn_gT124, zn_gF124, zn_gT128, zn_gF128, zn_gT560, zn_gF560, zn_lT7, zn_lF7, zn_lT120, zn_lF120, zn_qT7, zn_qF7, zn_qT120, zn_qF120, zn_qT0, zn_qF0, zn_qT1, zn_qF1, zn_hT0, zn_hF0, zn_hT7, zn_hF7, zn_sb, pk_us, zn_us, h']
      first | exact ⟨rfl, R⟩ | exact R
    · unfold wpX_seen wpX_isProcess wpY_seen wpY_isProcess
      simp (disch := omega) only [zn_k4, zn_k8, zn_k16, zn_k32, zn_m16, zn_a64, zn_a128, nI_add, nI_1, nI_clamp, vp_in_nI, true_and, and_true, forall_eq, zn_rN, zn_rB, zn_rO, zn_rE, zn_vb0, zn_vb1, zn_b1, zn_b0, zn_d1, zn_d0, zn_e1, zn_e0, zn_wN, zn_wB1, zn_wB0, zn_wO, zn_wOd, zn_wO0, zn_wE, zn_wEe, zn_wE0, zn_leT, zn_leF, zn_ltT, zn_ltF, zn_eqF, zn_eqT, zn_lt0, zn_0le, zn_d2a, zn_d2b, zn_e1a, zn_e1b, zn_10, zn_00, zn_sh4, zn_an15, true_imp_iff, false_imp_iff, imp_true_iff, not_true_eq_false, not_false_eq_true, zn_gT4, zn_gF4, zn_gT8, zn_gF8, zn_gT12, zn_gF12, zn_gT48, zn_gF48, zn_gT124, zn_gF124, zn_gT128, zn_gF128, zn_gT560, zn_gF560, zn_lT7, zn_lF7, zn_lT120, zn_lF120, zn_qT7, zn_qF7, zn_qT120, zn_qF120, zn_qT0, zn_qF0, zn_qT1, zn_qF1, zn_hT0, zn_hF0, zn_hT7, zn_hF7, zn_sb, pk_us, zn_us, h', zr_nn h' (by omega)]
      first | exact ⟨rfl, R⟩ | exact R
    · have hY : ∀ c, zf_cnt (fun j => gm (ch (x * 16 + j) * 4 + r)) (ix x + 1) 0 = c → wpY_seen (fun r' => r' = nI c ∧ i_Rel (k + 4) (nI n, nI sc, nI lm, nI sv, nI rl, nI bg, zc_B xup, zc_N ix, zc_N ic, zc_N st, un, rp, dc, xv, zc_B xs, zc_N xo, xrs, xrr, xra, zc_O xp, zc_O xt, xss, sr, sa, zc_N en, zc_N xk, zc_N xl, zc_E xm, op, ol, ov) (nI n, nI sc, nI lm, nI sv, nI bg, nI rl, zc_N gp, zc_N gi, zc_N gx, gv, zc_E gq, zc_E gf, gr, ga, zc_N go, zc_B gs, zc_B gm, zc_B yp, zc_B yup, zc_N ix, zc_N ic, zc_N st, un, rp, dc, zc_N ch, zc_N en, zc_B kn, zc_B fl, zc_N to, zc_E sf, sr, sa, op, ol, ov)) (nI n, nI sc, nI lm, nI sv, nI bg, nI rl, zc_N gp, zc_N gi, zc_N gx, gv, zc_E gq, zc_E gf, gr, ga, zc_N go, zc_B gs, zc_B gm, zc_B yp, zc_B yup, zc_N ix, zc_N ic, zc_N st, un, rp, dc, zc_N ch, zc_N en, zc_B kn, zc_B fl, zc_N to, zc_E sf, sr, sa, op, ol, ov) (nI r) (nI x) := fun c hc => zy_seen hr hx hn.2 hix12 hb3.2.2.2.2.1 ⟨congrArg nI hc, R⟩
      have hs := hb1.2.2.1 x
      have hxx := hix12 x
      by_cases hrx : r = x
      · subst hrx
        have := hY (st r + 1) (zf_cnt_thr _ hs (fun j hj => (hsm r j hr (by omega)).mpr hj) (fun j h1 h2 => by
          cases hg : gm (ch (r * 16 + j) * 4 + r) with
          | false => rfl
          | true => exact absurd ((hsm r j hr h2).mp hg) (by omega)))
        unfold wpX_seen wpX_isProcess
        simp (disch := omega) only [zn_k4, zn_k8, zn_k16, zn_k32, zn_m16, zn_a64, zn_a128, nI_add, nI_1, nI_clamp, vp_in_nI, true_and, and_true, forall_eq, zn_rN, zn_rB, zn_rO, zn_rE, zn_vb0, zn_vb1, zn_b1, zn_b0, zn_d1, zn_d0, zn_e1, zn_e0, zn_wN, zn_wB1, zn_wB0, zn_wO, zn_wOd, zn_wO0, zn_wE, zn_wEe, zn_wE0, zn_leT, zn_leF, zn_ltT, zn_ltF, zn_eqF, zn_eqT, zn_lt0, zn_0le, zn_d2a, zn_d2b, zn_e1a, zn_e1b, zn_10, zn_00, zn_sh4, zn_an15, true_imp_iff, false_imp_iff, imp_true_iff, not_true_eq_false, not_false_eq_true, zn_gT4, zn_gF4, zn_gT8, zn_gF8, zn_gT12, zn_gF12, zn_gT48, zn_gF48, zn_gT124, zn_gF124, zn_gT128, zn_gF128, zn_gT560, zn_gF560, zn_lT7, zn_lF7, zn_lT120, zn_lF120, zn_qT7, zn_qF7, zn_qT120, zn_qF120, zn_qT0, zn_qF0, zn_qT1, zn_qF1, zn_hT0, zn_hF0, zn_hT7, zn_hF7, zn_sb, pk_us, zn_us]
        exact this
      · have hq : ∀ j, j ≤ ix x → _ := fun j hj => zr_mkq (r := r) hn.2 hb3 hch hD hv hm hr hx (fun z => hrx z.symm) hj
        have h1 := hY _ rfl
        have e : zf_cnt (fun j => gm (ch (x * 16 + j) * 4 + r)) (ix x + 1) 0 = zf_cnt (fun j => decide ((xp ((x * 16 + j) * 4 + x) - 1) % 16 < xm ((r * 4 + x) * 8 + (xp ((x * 16 + j) * 4 + x) - 1) / 16))) (ix x + 1) 0 := zf_cnt_cg _ _ (fun j _ hj => (hq j (by omega)).2.symm)
        rw [e] at h1
        unfold wpX_seen wpX_isProcess
        simp (disch := omega) only [zn_k4, zn_k8, zn_k16, zn_k32, zn_m16, zn_a64, zn_a128, nI_add, nI_1, nI_clamp, vp_in_nI, true_and, and_true, forall_eq, zn_rN, zn_rB, zn_rO, zn_rE, zn_vb0, zn_vb1, zn_b1, zn_b0, zn_d1, zn_d0, zn_e1, zn_e0, zn_wN, zn_wB1, zn_wB0, zn_wO, zn_wOd, zn_wO0, zn_wE, zn_wEe, zn_wE0, zn_leT, zn_leF, zn_ltT, zn_ltF, zn_eqF, zn_eqT, zn_lt0, zn_0le, zn_d2a, zn_d2b, zn_e1a, zn_e1b, zn_10, zn_00, zn_sh4, zn_an15, true_imp_iff, false_imp_iff, imp_true_iff, not_true_eq_false, not_false_eq_true, zn_gT4, zn_gF4, zn_gT8, zn_gF8, zn_gT12, zn_gF12, zn_gT48, zn_gF48, zn_gT124, zn_gF124, zn_gT128, zn_gF128, zn_gT560, zn_gF560, zn_lT7, zn_lF7, zn_lT120, zn_lF120, zn_qT7, zn_qF7, zn_qT120, zn_qF120, zn_qT0, zn_qF0, zn_qT1, zn_qF1, zn_hT0, zn_hF0, zn_hT7, zn_hF7, zn_sb, pk_us, zn_us]
        exact ⟨ix x + 2, zx_seen_l (by omega) (by omega) hxx hb2.2.1 hb2.2.2.2.2.2 (fun j hj => by rw [(hq j hj).1]; omega) (ix x + 1) 0 0 (by omega) (by omega) (by rw [Nat.zero_add]; exact h1)⟩
end
end
section
/-! questions about dependencies, processes, intervals -/
section
variable {n sc lm sv rl bg : Nat} {xup xs gs gm yp yup kn fl : Nat → Bool} {ix ic st xo xp xt en xk xl xm gp gi gx gq gf go ch to sf : Nat → Nat} {un rp dc xv xrs xrr xra xss sr sa op ol ov gv gr ga : Nat → Int32}
variable {P : Nat → Nat → Bool} {D : Nat → Nat → Nat} {k : Nat}
theorem zt_slotDependency {v1 v2 : Int32} (F : zr_F n sc lm sv rl bg ix ic st en xo xp xt xk xl xm gp gi gx go ch to gq gf sf xup yup kn fl xs gs gm gv gr ga xv xrs xrr xra xss P D) : wpX_slotDependency (fun r => wpY_slotDependency (fun r' v' => r' = r ∧ i_Rel (k + 4) (nI n, nI sc, nI lm, nI sv, nI rl, nI bg, zc_B xup, zc_N ix, zc_N ic, zc_N st, un, rp, dc, xv, zc_B xs, zc_N xo, xrs, xrr, xra, zc_O xp, zc_O xt, xss, sr, sa, zc_N en, zc_N xk, zc_N xl, zc_E xm, op, ol, ov) v') (nI n, nI sc, nI lm, nI sv, nI bg, nI rl, zc_N gp, zc_N gi, zc_N gx, gv, zc_E gq, zc_E gf, gr, ga, zc_N go, zc_B gs, zc_B gm, zc_B yp, zc_B yup, zc_N ix, zc_N ic, zc_N st, un, rp, dc, zc_N ch, zc_N en, zc_B kn, zc_B fl, zc_N to, zc_E sf, sr, sa, op, ol, ov) v1 v2) (nI n, nI sc, nI lm, nI sv, nI rl, nI bg, zc_B xup, zc_N ix, zc_N ic, zc_N st, un, rp, dc, xv, zc_B xs, zc_N xo, xrs, xrr, xra, zc_O xp, zc_O xt, xss, sr, sa, zc_N en, zc_N xk, zc_N xl, zc_E xm, op, ol, ov) v1 v2 := by
  have R : ∀ b, i_Rel (k + 4) (nI n, nI sc, nI lm, nI sv, nI rl, nI bg, zc_B xup, zc_N ix, zc_N ic, zc_N st, un, rp, dc, xv, zc_B xs, zc_N xo, xrs, xrr, xra, zc_O xp, zc_O xt, xss, sr, sa, zc_N en, zc_N xk, zc_N xl, zc_E xm, op, ol, ov) (nI n, nI sc, nI lm, nI sv, nI bg, nI rl, zc_N gp, zc_N gi, zc_N gx, gv, zc_E gq, zc_E gf, gr, ga, zc_N go, zc_B gs, zc_B gm, zc_B (b), zc_B yup, zc_N ix, zc_N ic, zc_N st, un, rp, dc, zc_N ch, zc_N en, zc_B kn, zc_B fl, zc_N to, zc_E sf, sr, sa, op, ol, ov) := fun b => zr_mk F
  obtain ⟨hnum, hb1, hb2, hb3, hup, hk1, hk2, hG, hiv, hD, hcur, hch, hK, hv, hd, hsl, hm, hsm, hfr, hsv⟩ := F
  obtain ⟨hn, hsc, hlm, hsvn, hrl, hbg⟩ := hnum
  unfold wpX_slotDependency wpY_slotDependency wpX_isSlot wpX_isProcess wpY_isProcess
  rcases pk_ix v1 (n := sc) (by omega) with h | h | ⟨s, hs, rfl⟩
  · simp (disch := omega) only [zn_k4, zn_k8, zn_k16, zn_k32, zn_m16, zn_a64, zn_a128, nI_add, nI_1, nI_clamp, vp_in_nI, true_and, and_true, forall_eq, zn_rN, zn_rB, zn_rO, zn_rE, zn_vb0, zn_vb1, zn_b1, zn_b0, zn_d1, zn_d0, zn_e1, zn_e0, zn_wN, zn_wB1, zn_wB0, zn_wO, zn_wOd, zn_wO0, zn_wE, zn_wEe, zn_wE0, zn_leT, zn_leF, zn_ltT, zn_ltF, zn_eqF, zn_eqT, zn_lt0, zn_0le, zn_d2a, zn_d2b, zn_e1a, zn_e1b, zn_10, zn_00, zn_sh4, zn_an15, true_imp_iff, false_imp_iff, imp_true_iff, not_true_eq_false, not_false_eq_true, zn_gT4, zn_gF4, zn_gT8, zn_gF8, zn_gT12, zn_gF12, zn_gT48, zn_gF48, zn_gT124, zn_gF124, zn_gT128, zn_gF128, zn_gT560, zn_gF560, zn_lT7, zn_lF7, zn_lT120, zn_lF120, zn_qT7, zn_qF7, zn_qT120, zn_qF120, zn_qT0, zn_qF0, zn_qT1, zn_qF1, zn_hT0, zn_hF0, zn_hT7, zn_hF7, zn_sb, pk_us, zn_us, h]
    first | exact ⟨rfl, R _⟩ | exact R _
  · simp (disch := omega) only [zn_k4, zn_k8, zn_k16, zn_k32, zn_m16, zn_a64, zn_a128, nI_add, nI_1, nI_clamp, vp_in_nI, true_and, and_true, forall_eq, zn_rN, zn_rB, zn_rO, zn_rE, zn_vb0, zn_vb1, zn_b1, zn_b0, zn_d1, zn_d0, zn_e1, zn_e0, zn_wN, zn_wB1, zn_wB0, zn_wO, zn_wOd, zn_wO0, zn_wE, zn_wEe, zn_wE0, zn_leT, zn_leF, zn_ltT, zn_ltF, zn_eqF, zn_eqT, zn_lt0, zn_0le, zn_d2a, zn_d2b, zn_e1a, zn_e1b, zn_10, zn_00, zn_sh4, zn_an15, true_imp_iff, false_imp_iff, imp_true_iff, not_true_eq_false, not_false_eq_true, zn_gT4, zn_gF4, zn_gT8, zn_gF8, zn_gT12, zn_gF12, zn_gT48, zn_gF48, zn_gT124, zn_gF124, zn_gT128, zn_gF128, zn_gT560, zn_gF560, zn_lT7, zn_lF7, zn_lT120, zn_lF120, zn_qT7, zn_qF7, zn_qT120, zn_qF120, zn_qT0, zn_qF0, zn_qT1, zn_qF1, zn_hT0, zn_hF0, zn_hT7, zn_hF7, zn_sb, pk_us, zn_us, h, zr_nn h (by omega)]
    first | exact ⟨rfl, R _⟩ | exact R _
  · have h0 := hsl s hs
    rcases pk_ix v2 (n := n) (by omega) with h' | h' | ⟨x, hx, rfl⟩
    · simp (disch := omega) only [zn_k4, zn_k8, zn_k16, zn_k32, zn_m16, zn_a64, zn_a128, nI_add, nI_1, nI_clamp, vp_in_nI, true_and, and_true, forall_eq, zn_rN, zn_rB, zn_rO, zn_rE, zn_vb0, zn_vb1, zn_b1, zn_b0, zn_d1, zn_d0, zn_e1, zn_e0, zn_wN, zn_wB1, zn_wB0, zn_wO, zn_wOd, zn_wO0, zn_wE, zn_wEe, zn_wE0, zn_leT, zn_leF, zn_ltT, zn_ltF, zn_eqF, zn_eqT, zn_lt0, zn_0le, zn_d2a, zn_d2b, zn_e1a, zn_e1b, zn_10, zn_00, zn_sh4, zn_an15, true_imp_iff, false_imp_iff, imp_true_iff, not_true_eq_false, not_false_eq_true, zn_gT4, zn_gF4, zn_gT8, zn_gF8, zn_gT12, zn_gF12, zn_gT48, zn_gF48, zn_gT124, zn_gF124, zn_gT128, zn_gF128, zn_gT560, zn_gF560, zn_lT7, zn_lF7, zn_lT120, zn_lF120, zn_qT7, zn_qF7, zn_qT120, zn_qF120, zn_qT0, zn_qF0, zn_qT1, zn_qF1, zn_hT0, zn_hF0, zn_hT7, zn_hF7, zn_sb, pk_us, zn_us, h']
      first | exact ⟨rfl, R _⟩ | exact R _
    · simp (disch := omega) only [zn_k4, zn_k8, zn_k16, zn_k32, zn_m16, zn_a64, zn_a128, nI_add, nI_1, nI_clamp, vp_in_nI, true_and, and_true, forall_eq, zn_rN, zn_rB, zn_rO, zn_rE, zn_vb0, zn_vb1, zn_b1, zn_b0, zn_d1, zn_d0, zn_e1, zn_e0, zn_wN, zn_wB1, zn_wB0, zn_wO, zn_wOd, zn_wO0, zn_wE, zn_wEe, zn_wE0, zn_leT, zn_leF, zn_ltT, zn_ltF, zn_eqF, zn_eqT, zn_lt0, zn_0le, zn_d2a, zn_d2b, zn_e1a, zn_e1b, zn_10, zn_00, zn_sh4, zn_an15, true_imp_iff, false_imp_iff, imp_true_iff, not_true_eq_false, not_false_eq_true, zn_gT4, zn_gF4, zn_gT8, zn_gF8, zn_gT12, zn_gF12, zn_gT48, zn_gF48, zn_gT124, zn_gF124, zn_gT128, zn_gF128, zn_gT560, zn_gF560, zn_lT7, zn_lF7, zn_lT120, zn_lF120, zn_qT7, zn_qF7, zn_qT120, zn_qF120, zn_qT0, zn_qF0, zn_qT1, zn_qF1, zn_hT0, zn_hF0, zn_hT7, zn_hF7, zn_sb, pk_us, zn_us, h', zr_nn h' (by omega)]
      first | exact ⟨rfl, R _⟩ | exact R _
    · by_cases hq : xt s = 0
      · have hf : fl s = false := by rw [h0.1, decide_eq_false (fun z => z hq)]
        simp (disch := omega) only [zn_k4, zn_k8, zn_k16, zn_k32, zn_m16, zn_a64, zn_a128, nI_add, nI_1, nI_clamp, vp_in_nI, true_and, and_true, forall_eq, zn_rN, zn_rB, zn_rO, zn_rE, zn_vb0, zn_vb1, zn_b1, zn_b0, zn_d1, zn_d0, zn_e1, zn_e0, zn_wN, zn_wB1, zn_wB0, zn_wO, zn_wOd, zn_wO0, zn_wE, zn_wEe, zn_wE0, zn_leT, zn_leF, zn_ltT, zn_ltF, zn_eqF, zn_eqT, zn_lt0, zn_0le, zn_d2a, zn_d2b, zn_e1a, zn_e1b, zn_10, zn_00, zn_sh4, zn_an15, true_imp_iff, false_imp_iff, imp_true_iff, not_true_eq_false, not_false_eq_true, zn_gT4, zn_gF4, zn_gT8, zn_gF8, zn_gT12, zn_gF12, zn_gT48, zn_gF48, zn_gT124, zn_gF124, zn_gT128, zn_gF128, zn_gT560, zn_gF560, zn_lT7, zn_lF7, zn_lT120, zn_lF120, zn_qT7, zn_qF7, zn_qT120, zn_qF120, zn_qT0, zn_qF0, zn_qT1, zn_qF1, zn_hT0, zn_hF0, zn_hT7, zn_hF7, zn_sb, pk_us, zn_us, hq, hf]
        first | exact ⟨rfl, R _⟩ | exact R _
      · have hf : fl s = true := by rw [h0.1, decide_eq_true hq]
        have h1 := h0.2 hq
        have e1 : xt s = to s + 1 := h1.1
        have ht := h1.2.1
        have e5 := h1.2.2.2.2 x (by omega)
        simp (disch := omega) only [zn_k4, zn_k8, zn_k16, zn_k32, zn_m16, zn_a64, zn_a128, nI_add, nI_1, nI_clamp, vp_in_nI, true_and, and_true, forall_eq, zn_rN, zn_rB, zn_rO, zn_rE, zn_vb0, zn_vb1, zn_b1, zn_b0, zn_d1, zn_d0, zn_e1, zn_e0, zn_wN, zn_wB1, zn_wB0, zn_wO, zn_wOd, zn_wO0, zn_wE, zn_wEe, zn_wE0, zn_leT, zn_leF, zn_ltT, zn_ltF, zn_eqF, zn_eqT, zn_lt0, zn_0le, zn_d2a, zn_d2b, zn_e1a, zn_e1b, zn_10, zn_00, zn_sh4, zn_an15, true_imp_iff, false_imp_iff, imp_true_iff, not_true_eq_false, not_false_eq_true, zn_gT4, zn_gF4, zn_gT8, zn_gF8, zn_gT12, zn_gF12, zn_gT48, zn_gF48, zn_gT124, zn_gF124, zn_gT128, zn_gF128, zn_gT560, zn_gF560, zn_lT7, zn_lF7, zn_lT120, zn_lF120, zn_qT7, zn_qF7, zn_qT120, zn_qF120, zn_qT0, zn_qF0, zn_qT1, zn_qF1, zn_hT0, zn_hF0, zn_hT7, zn_hF7, zn_sb, pk_us, zn_us, hf, e1]
        refine zy_gr (m := sf s) hG (by omega) h1.2.2.1 (by omega) hb3.1 hb3.2.1 hb3.2.2.1 (fun b => ?_)
        rw [zr_great (by omega) hG hb3 hD h1.2.2.1 x, e5]
        exact ⟨rfl, R b⟩
theorem zt_dependency {v1 v2 v3 : Int32} (F : zr_F n sc lm sv rl bg ix ic st en xo xp xt xk xl xm gp gi gx go ch to gq gf sf xup yup kn fl xs gs gm gv gr ga xv xrs xrr xra xss P D) : wpX_dependency (fun r => wpY_dependency (fun r' v' => r' = r ∧ i_Rel (k + 4) (nI n, nI sc, nI lm, nI sv, nI rl, nI bg, zc_B xup, zc_N ix, zc_N ic, zc_N st, un, rp, dc, xv, zc_B xs, zc_N xo, xrs, xrr, xra, zc_O xp, zc_O xt, xss, sr, sa, zc_N en, zc_N xk, zc_N xl, zc_E xm, op, ol, ov) v') (nI n, nI sc, nI lm, nI sv, nI bg, nI rl, zc_N gp, zc_N gi, zc_N gx, gv, zc_E gq, zc_E gf, gr, ga, zc_N go, zc_B gs, zc_B gm, zc_B yp, zc_B yup, zc_N ix, zc_N ic, zc_N st, un, rp, dc, zc_N ch, zc_N en, zc_B kn, zc_B fl, zc_N to, zc_E sf, sr, sa, op, ol, ov) v1 v2 v3) (nI n, nI sc, nI lm, nI sv, nI rl, nI bg, zc_B xup, zc_N ix, zc_N ic, zc_N st, un, rp, dc, xv, zc_B xs, zc_N xo, xrs, xrr, xra, zc_O xp, zc_O xt, xss, sr, sa, zc_N en, zc_N xk, zc_N xl, zc_E xm, op, ol, ov) v1 v2 v3 := by
  have R : ∀ b, i_Rel (k + 4) (nI n, nI sc, nI lm, nI sv, nI rl, nI bg, zc_B xup, zc_N ix, zc_N ic, zc_N st, un, rp, dc, xv, zc_B xs, zc_N xo, xrs, xrr, xra, zc_O xp, zc_O xt, xss, sr, sa, zc_N en, zc_N xk, zc_N xl, zc_E xm, op, ol, ov) (nI n, nI sc, nI lm, nI sv, nI bg, nI rl, zc_N gp, zc_N gi, zc_N gx, gv, zc_E gq, zc_E gf, gr, ga, zc_N go, zc_B gs, zc_B gm, zc_B (b), zc_B yup, zc_N ix, zc_N ic, zc_N st, un, rp, dc, zc_N ch, zc_N en, zc_B kn, zc_B fl, zc_N to, zc_E sf, sr, sa, op, ol, ov) := fun b => zr_mk F
  obtain ⟨hnum, hb1, hb2, hb3, hup, hk1, hk2, hG, hiv, hD, hcur, hch, hK, hv, hd, hsl, hm, hsm, hfr, hsv⟩ := F
  obtain ⟨hn, hsc, hlm, hsvn, hrl, hbg⟩ := hnum
  unfold wpX_dependency wpY_dependency wpX_onChain wpX_isProcess wpY_isProcess
  rcases pk_ix v3 (n := n) (by omega) with h' | h' | ⟨x, hx, rfl⟩
  · rcases pk_ix v1 (n := n) (by omega) with h | h | ⟨p, hp, rfl⟩
    · simp (disch := omega) only [zn_k4, zn_k8, zn_k16, zn_k32, zn_m16, zn_a64, zn_a128, nI_add, nI_1, nI_clamp, vp_in_nI, true_and, and_true, forall_eq, zn_rN, zn_rB, zn_rO, zn_rE, zn_vb0, zn_vb1, zn_b1, zn_b0, zn_d1, zn_d0, zn_e1, zn_e0, zn_wN, zn_wB1, zn_wB0, zn_wO, zn_wOd, zn_wO0, zn_wE, zn_wEe, zn_wE0, zn_leT, zn_leF, zn_ltT, zn_ltF, zn_eqF, zn_eqT, zn_lt0, zn_0le, zn_d2a, zn_d2b, zn_e1a, zn_e1b, zn_10, zn_00, zn_sh4, zn_an15, true_imp_iff, false_imp_iff, imp_true_iff, not_true_eq_false, not_false_eq_true, zn_gT4, zn_gF4, zn_gT8, zn_gF8, zn_gT12, zn_gF12, zn_gT48, zn_gF48, zn_gT124, zn_gF124, zn_gT128, zn_gF128, zn_gT560, zn_gF560, zn_lT7, zn_lF7, zn_lT120, zn_lF120, zn_qT7, zn_qF7, zn_qT120, zn_qF120, zn_qT0, zn_qF0, zn_qT1, zn_qF1, zn_hT0, zn_hF0, zn_hT7, zn_hF7, zn_sb, pk_us, zn_us, h, h']
      first | exact ⟨rfl, R _⟩ | exact R _
    · simp (disch := omega) only [zn_k4, zn_k8, zn_k16, zn_k32, zn_m16, zn_a64, zn_a128, nI_add, nI_1, nI_clamp, vp_in_nI, true_and, and_true, forall_eq, zn_rN, zn_rB, zn_rO, zn_rE, zn_vb0, zn_vb1, zn_b1, zn_b0, zn_d1, zn_d0, zn_e1, zn_e0, zn_wN, zn_wB1, zn_wB0, zn_wO, zn_wOd, zn_wO0, zn_wE, zn_wEe, zn_wE0, zn_leT, zn_leF, zn_ltT, zn_ltF, zn_eqF, zn_eqT, zn_lt0, zn_0le, zn_d2a, zn_d2b, zn_e1a, zn_e1b, zn_10, zn_00, zn_sh4, zn_an15, true_imp_iff, false_imp_iff, imp_true_iff, not_true_eq_false, not_false_eq_true, zn_gT4, zn_gF4, zn_gT8, zn_gF8, zn_gT12, zn_gF12, zn_gT48, zn_gF48, zn_gT124, zn_gF124, zn_gT128, zn_gF128, zn_gT560, zn_gF560, zn_lT7, zn_lF7, zn_lT120, zn_lF120, zn_qT7, zn_qF7, zn_qT120, zn_qF120, zn_qT0, zn_qF0, zn_qT1, zn_qF1, zn_hT0, zn_hF0, zn_hT7, zn_hF7, zn_sb, pk_us, zn_us, h, h', zr_nn h (by omega)]
      first | exact ⟨rfl, R _⟩ | exact R _
    · simp (disch := omega) only [zn_k4, zn_k8, zn_k16, zn_k32, zn_m16, zn_a64, zn_a128, nI_add, nI_1, nI_clamp, vp_in_nI, true_and, and_true, forall_eq, zn_rN, zn_rB, zn_rO, zn_rE, zn_vb0, zn_vb1, zn_b1, zn_b0, zn_d1, zn_d0, zn_e1, zn_e0, zn_wN, zn_wB1, zn_wB0, zn_wO, zn_wOd, zn_wO0, zn_wE, zn_wEe, zn_wE0, zn_leT, zn_leF, zn_ltT, zn_ltF, zn_eqF, zn_eqT, zn_lt0, zn_0le, zn_d2a, zn_d2b, zn_e1a, zn_e1b, zn_10, zn_00, zn_sh4, zn_an15, true_imp_iff, false_imp_iff, imp_true_iff, not_true_eq_false, not_false_eq_true, zn_gT4, zn_gF4, zn_gT8, zn_gF8, zn_gT12, zn_gF12, zn_gT48, zn_gF48, zn_gT124, zn_gF124, zn_gT128, zn_gF128, zn_gT560, zn_gF560, zn_lT7, zn_lF7, zn_lT120, zn_lF120, zn_qT7, zn_qF7, zn_qT120, zn_qF120, zn_qT0, zn_qF0, zn_qT1, zn_qF1, zn_hT0, zn_hF0, zn_hT7, zn_hF7, zn_sb, pk_us, zn_us, h']
      first | exact ⟨rfl, R _⟩ | exact R _
  · rcases pk_ix v1 (n := n) (by omega) with h | h | ⟨p, hp, rfl⟩
    · simp (disch := omega) only [zn_k4, zn_k8, zn_k16, zn_k32, zn_m16, zn_a64, zn_a128, nI_add, nI_1, nI_clamp, vp_in_nI, true_and, and_true, forall_eq, zn_rN, zn_rB, zn_rO, zn_rE, zn_vb0, zn_vb1, zn_b1, zn_b0, zn_d1, zn_d0, zn_e1, zn_e0, zn_wN, zn_wB1, zn_wB0, zn_wO, zn_wOd, zn_wO0, zn_wE, zn_wEe, zn_wE0, zn_leT, zn_leF, zn_ltT, zn_ltF, zn_eqF, zn_eqT, zn_lt0, zn_0le, zn_d2a, zn_d2b, zn_e1a, zn_e1b, zn_10, zn_00, zn_sh4, zn_an15, true_imp_iff, false_imp_iff, imp_true_iff, not_true_eq_false, not_false_eq_true, zn_gT4, zn_gF4, zn_gT8, zn_gF8, zn_gT12, zn_gF12, zn_gT48, zn_gF48, zn_gT124, zn_gF124, zn_gT128, zn_gF128, zn_gT560, zn_gF560, zn_lT7, zn_lF7, zn_lT120, zn_lF120, zn_qT7, zn_qF7, zn_qT120, zn_qF120, zn_qT0, zn_qF0, zn_qT1, zn_qF1, zn_hT0, zn_hF0, zn_hT7, zn_hF7, zn_sb, pk_us, zn_us, h, h', zr_nn h' (by omega)]
      first | exact ⟨rfl, R _⟩ | exact R _
    · simp (disch := omega) only [zn_k4, zn_k8, zn_k16, zn_k32, zn_m16, zn_a64, zn_a128, nI_add, nI_1, nI_clamp, vp_in_nI, true_and, and_true, forall_eq, zn_rN, zn_rB, zn_rO, zn_rE, zn_vb0, zn_vb1, zn_b1, zn_b0, zn_d1, zn_d0, zn_e1, zn_e0, zn_wN, zn_wB1, zn_wB0, zn_wO, zn_wOd, zn_wO0, zn_wE, zn_wEe, zn_wE0, zn_leT, zn_leF, zn_ltT, zn_ltF, zn_eqF, zn_eqT, zn_lt0, zn_0le, zn_d2a, zn_d2b, zn_e1a, zn_e1b, zn_10, zn_00, zn_sh4, zn_an15, true_imp_iff, false_imp_iff, imp_true_iff, not_true_eq_false, not_false_eq_true, zn_gT4, zn_gF4, zn_gT8, zn_gF8, zn_gT12, zn_gF12, zn_gT48, zn_gF48, zn_gT124, zn_gF124, zn_gT128, zn_gF128, zn_gT560, zn_gF560, zn_lT7, zn_lF7, zn_lT120, zn_lF120, zn_qT7, zn_qF7, zn_qT120, zn_qF120, zn_qT0, zn_qF0, zn_qT1, zn_qF1, zn_hT0, zn_hF0, zn_hT7, zn_hF7, zn_sb, pk_us, zn_us, h, h', zr_nn h (by omega), zr_nn h' (by omega)]
      first | exact ⟨rfl, R _⟩ | exact R _
    · simp (disch := omega) only [zn_k4, zn_k8, zn_k16, zn_k32, zn_m16, zn_a64, zn_a128, nI_add, nI_1, nI_clamp, vp_in_nI, true_and, and_true, forall_eq, zn_rN, zn_rB, zn_rO, zn_rE, zn_vb0, zn_vb1, zn_b1, zn_b0, zn_d1, zn_d0, zn_e1, zn_e0, zn_wN, zn_wB1, zn_wB0, zn_wO, zn_wOd, zn_wO0, zn_wE, zn_wEe, zn_wE0, zn_leT, zn_leF, zn_ltT, zn_ltF, zn_eqF, zn_eqT, zn_lt0, zn_0le, zn_d2a, zn_d2b, zn_e1a, zn_e1b, zn_10, zn_00, zn_sh4, zn_an15, true_imp_iff, false_imp_iff, imp_true_iff, not_true_eq_false, not_false_eq_true, zn_gT4, zn_gF4, zn_gT8, zn_gF8, zn_gT12, zn_gF12, zn_gT48, zn_gF48, zn_gT124, zn_gF124, zn_gT128, zn_gF128, zn_gT560, zn_gF560, zn_lT7, zn_lF7, zn_lT120, zn_lF120, zn_qT7, zn_qF7, zn_qT120, zn_qF120, zn_qT0, zn_qF0, zn_qT1, zn_qF1, zn_hT0, zn_hF0, zn_hT7, zn_hF7, zn_sb, pk_us, zn_us, h', zr_nn h' (by omega)]
      first | exact ⟨rfl, R _⟩ | exact R _
  · rcases pk_ix v1 (n := n) (by omega) with h | h | ⟨p, hp, rfl⟩
    · simp (disch := omega) only [zn_k4, zn_k8, zn_k16, zn_k32, zn_m16, zn_a64, zn_a128, nI_add, nI_1, nI_clamp, vp_in_nI, true_and, and_true, forall_eq, zn_rN, zn_rB, zn_rO, zn_rE, zn_vb0, zn_vb1, zn_b1, zn_b0, zn_d1, zn_d0, zn_e1, zn_e0, zn_wN, zn_wB1, zn_wB0, zn_wO, zn_wOd, zn_wO0, zn_wE, zn_wEe, zn_wE0, zn_leT, zn_leF, zn_ltT, zn_ltF, zn_eqF, zn_eqT, zn_lt0, zn_0le, zn_d2a, zn_d2b, zn_e1a, zn_e1b, zn_10, zn_00, zn_sh4, zn_an15, true_imp_iff, false_imp_iff, imp_true_iff, not_true_eq_false, not_false_eq_true, zn_gT4, zn_gF4, zn_gT8, zn_gF8, zn_gT12, zn_gF12, zn_gT48, zn_gF48, zn_gT124, zn_gF124, zn_gT128, zn_gF128, zn_gT560, zn_gF560, zn_lT7, zn_lF7, zn_lT120, zn_lF120, zn_qT7, zn_qF7, zn_qT120, zn_qF120, zn_qT0, zn_qF0, zn_qT1, zn_qF1, zn_hT0, zn_hF0, zn_hT7, zn_hF7, zn_sb, pk_us, zn_us, h]
      first | exact ⟨rfl, R _⟩ | exact R _
    · simp (disch := omega) only [zn_k4, zn_k8, zn_k16, zn_k32, zn_m16, zn_a64, zn_a128, nI_add, nI_1, nI_clamp, vp_in_nI, true_and, and_true, forall_eq, zn_rN, zn_rB, zn_rO, zn_rE, zn_vb0, zn_vb1, zn_b1, zn_b0, zn_d1, zn_d0, zn_e1, zn_e0, zn_wN, zn_wB1, zn_wB0, zn_wO, zn_wOd, zn_wO0, zn_wE, zn_wEe, zn_wE0, zn_leT, zn_leF, zn_ltT, zn_ltF, zn_eqF, zn_eqT, zn_lt0, zn_0le, zn_d2a, zn_d2b, zn_e1a, zn_e1b, zn_10, zn_00, zn_sh4, zn_an15, true_imp_iff, false_imp_iff, imp_true_iff, not_true_eq_false, not_false_eq_true, zn_gT4, zn_gF4, zn_gT8, zn_gF8, zn_gT12, zn_gF12, zn_gT48, zn_gF48, zn_gT124, zn_gF124, zn_gT128, zn_gF128, zn_gT560, zn_gF560, zn_lT7, zn_lF7, zn_lT120, zn_lF120, zn_qT7, zn_qF7, zn_qT120, zn_qF120, zn_qT0, zn_qF0, zn_qT1, zn_qF1, zn_hT0, zn_hF0, zn_hT7, zn_hF7, zn_sb, pk_us, zn_us, h, zr_nn h (by omega)]
      first | exact ⟨rfl, R _⟩ | exact R _
    · have hix := hb1.1 p
      rcases pk_ix v2 (n := ix p + 1) (by omega) with h | h | ⟨i, hi, rfl⟩
      · simp (disch := omega) only [zn_k4, zn_k8, zn_k16, zn_k32, zn_m16, zn_a64, zn_a128, nI_add, nI_1, nI_clamp, vp_in_nI, true_and, and_true, forall_eq, zn_rN, zn_rB, zn_rO, zn_rE, zn_vb0, zn_vb1, zn_b1, zn_b0, zn_d1, zn_d0, zn_e1, zn_e0, zn_wN, zn_wB1, zn_wB0, zn_wO, zn_wOd, zn_wO0, zn_wE, zn_wEe, zn_wE0, zn_leT, zn_leF, zn_ltT, zn_ltF, zn_eqF, zn_eqT, zn_lt0, zn_0le, zn_d2a, zn_d2b, zn_e1a, zn_e1b, zn_10, zn_00, zn_sh4, zn_an15, true_imp_iff, false_imp_iff, imp_true_iff, not_true_eq_false, not_false_eq_true, zn_gT4, zn_gF4, zn_gT8, zn_gF8, zn_gT12, zn_gF12, zn_gT48, zn_gF48, zn_gT124, zn_gF124, zn_gT128, zn_gF128, zn_gT560, zn_gF560, zn_lT7, zn_lF7, zn_lT120, zn_lF120, zn_qT7, zn_qF7, zn_qT120, zn_qF120, zn_qT0, zn_qF0, zn_qT1, zn_qF1, zn_hT0, zn_hF0, zn_hT7, zn_hF7, zn_sb, pk_us, zn_us, h]
        first | exact ⟨rfl, R _⟩ | exact R _
      · have h1 := zr_le (n := ix p + 1) (a := ix p) h (by omega) (by omega)
        have h2 : (nI (ix p) < v2) = True := eq_true (Int32.not_le.mp (fun z => by rw [h1] at z; exact z))
        simp (disch := omega) only [zn_k4, zn_k8, zn_k16, zn_k32, zn_m16, zn_a64, zn_a128, nI_add, nI_1, nI_clamp, vp_in_nI, true_and, and_true, forall_eq, zn_rN, zn_rB, zn_rO, zn_rE, zn_vb0, zn_vb1, zn_b1, zn_b0, zn_d1, zn_d0, zn_e1, zn_e0, zn_wN, zn_wB1, zn_wB0, zn_wO, zn_wOd, zn_wO0, zn_wE, zn_wEe, zn_wE0, zn_leT, zn_leF, zn_ltT, zn_ltF, zn_eqF, zn_eqT, zn_lt0, zn_0le, zn_d2a, zn_d2b, zn_e1a, zn_e1b, zn_10, zn_00, zn_sh4, zn_an15, true_imp_iff, false_imp_iff, imp_true_iff, not_true_eq_false, not_false_eq_true, zn_gT4, zn_gF4, zn_gT8, zn_gF8, zn_gT12, zn_gF12, zn_gT48, zn_gF48, zn_gT124, zn_gF124, zn_gT128, zn_gF128, zn_gT560, zn_gF560, zn_lT7, zn_lF7, zn_lT120, zn_lF120, zn_qT7, zn_qF7, zn_qT120, zn_qF120, zn_qT0, zn_qF0, zn_qT1, zn_qF1, zn_hT0, zn_hF0, zn_hT7, zn_hF7, zn_sb, pk_us, zn_us, h1, h2, zr_nn (n := ix p + 1) h (by omega)]
        first | exact ⟨rfl, R _⟩ | exact R _
      · have h0 := hch.1 p i hp (by omega)
        have e := (hv p i x hp (by omega) (by omega)).1
        simp (disch := omega) only [zn_k4, zn_k8, zn_k16, zn_k32, zn_m16, zn_a64, zn_a128, nI_add, nI_1, nI_clamp, vp_in_nI, true_and, and_true, forall_eq, zn_rN, zn_rB, zn_rO, zn_rE, zn_vb0, zn_vb1, zn_b1, zn_b0, zn_d1, zn_d0, zn_e1, zn_e0, zn_wN, zn_wB1, zn_wB0, zn_wO, zn_wOd, zn_wO0, zn_wE, zn_wEe, zn_wE0, zn_leT, zn_leF, zn_ltT, zn_ltF, zn_eqF, zn_eqT, zn_lt0, zn_0le, zn_d2a, zn_d2b, zn_e1a, zn_e1b, zn_10, zn_00, zn_sh4, zn_an15, true_imp_iff, false_imp_iff, imp_true_iff, not_true_eq_false, not_false_eq_true, zn_gT4, zn_gF4, zn_gT8, zn_gF8, zn_gT12, zn_gF12, zn_gT48, zn_gF48, zn_gT124, zn_gF124, zn_gT128, zn_gF128, zn_gT560, zn_gF560, zn_lT7, zn_lF7, zn_lT120, zn_lF120, zn_qT7, zn_qF7, zn_qT120, zn_qF120, zn_qT0, zn_qF0, zn_qT1, zn_qF1, zn_hT0, zn_hF0, zn_hT7, zn_hF7, zn_sb, pk_us, zn_us, e]
        refine zy_gr (m := ch (p * 16 + i) + 1) hG (by omega) h0.1 (by omega) hb3.1 hb3.2.1 hb3.2.2.1 (fun b => ?_)
        rw [zr_great (by omega) hG hb3 hD h0.1 x]
        exact ⟨rfl, R b⟩
theorem zt_receiptDependency {v1 v2 v3 : Int32} (F : zr_F n sc lm sv rl bg ix ic st en xo xp xt xk xl xm gp gi gx go ch to gq gf sf xup yup kn fl xs gs gm gv gr ga xv xrs xrr xra xss P D) : wpX_receiptDependency (fun r => wpY_receiptDependency (fun r' v' => r' = r ∧ i_Rel (k + 4) (nI n, nI sc, nI lm, nI sv, nI rl, nI bg, zc_B xup, zc_N ix, zc_N ic, zc_N st, un, rp, dc, xv, zc_B xs, zc_N xo, xrs, xrr, xra, zc_O xp, zc_O xt, xss, sr, sa, zc_N en, zc_N xk, zc_N xl, zc_E xm, op, ol, ov) v') (nI n, nI sc, nI lm, nI sv, nI bg, nI rl, zc_N gp, zc_N gi, zc_N gx, gv, zc_E gq, zc_E gf, gr, ga, zc_N go, zc_B gs, zc_B gm, zc_B yp, zc_B yup, zc_N ix, zc_N ic, zc_N st, un, rp, dc, zc_N ch, zc_N en, zc_B kn, zc_B fl, zc_N to, zc_E sf, sr, sa, op, ol, ov) v1 v2 v3) (nI n, nI sc, nI lm, nI sv, nI rl, nI bg, zc_B xup, zc_N ix, zc_N ic, zc_N st, un, rp, dc, xv, zc_B xs, zc_N xo, xrs, xrr, xra, zc_O xp, zc_O xt, xss, sr, sa, zc_N en, zc_N xk, zc_N xl, zc_E xm, op, ol, ov) v1 v2 v3 := by
  have R : ∀ b, i_Rel (k + 4) (nI n, nI sc, nI lm, nI sv, nI rl, nI bg, zc_B xup, zc_N ix, zc_N ic, zc_N st, un, rp, dc, xv, zc_B xs, zc_N xo, xrs, xrr, xra, zc_O xp, zc_O xt, xss, sr, sa, zc_N en, zc_N xk, zc_N xl, zc_E xm, op, ol, ov) (nI n, nI sc, nI lm, nI sv, nI bg, nI rl, zc_N gp, zc_N gi, zc_N gx, gv, zc_E gq, zc_E gf, gr, ga, zc_N go, zc_B gs, zc_B gm, zc_B (b), zc_B yup, zc_N ix, zc_N ic, zc_N st, un, rp, dc, zc_N ch, zc_N en, zc_B kn, zc_B fl, zc_N to, zc_E sf, sr, sa, op, ol, ov) := fun b => zr_mk F
  obtain ⟨hnum, hb1, hb2, hb3, hup, hk1, hk2, hG, hiv, hD, hcur, hch, hK, hv, hd, hsl, hm, hsm, hfr, hsv⟩ := F
  obtain ⟨hn, hsc, hlm, hsvn, hrl, hbg⟩ := hnum
  unfold wpX_receiptDependency wpY_receiptDependency wpX_onChain wpX_isProcess wpY_isProcess
  have hl1 : ∀ c : Int32, c < 0 → c < 1 := fun c hc => Int32.lt_trans hc (by decide)
  rcases pk_ix v3 (n := n) (by omega) with h' | h' | ⟨x, hx, rfl⟩
  · rcases pk_ix v1 (n := n) (by omega) with h | h | ⟨p, hp, rfl⟩
    · simp (disch := omega) only [zn_k4, zn_k8, zn_k16, zn_k32, zn_m16, zn_a64, zn_a128, nI_add, nI_1, nI_clamp, vp_in_nI, true_and, and_true, forall_eq, zn_rN, zn_rB, zn_rO, zn_rE, zn_vb0, zn_vb1, zn_b1, zn_b0, zn_d1, zn_d0, zn_e1, zn_e0, zn_wN, zn_wB1, zn_wB0, zn_wO, zn_wOd, zn_wO0, zn_wE, zn_wEe, zn_wE0, zn_leT, zn_leF, zn_ltT, zn_ltF, zn_eqF, zn_eqT, zn_lt0, zn_0le, zn_d2a, zn_d2b, zn_e1a, zn_e1b, zn_10, zn_00, zn_sh4, zn_an15, true_imp_iff, false_imp_iff, imp_true_iff, not_true_eq_false, not_false_eq_true, zn_gT4, zn_gF4, zn_gT8, zn_gF8, zn_gT12, zn_gF12, zn_gT48, zn_gF48, zn_gT124, zn_gF124, zn_gT128, zn_gF128, zn_gT560, zn_gF560, zn_lT7, zn_lF7, zn_lT120, zn_lF120, zn_qT7, zn_qF7, zn_qT120, zn_qF120, zn_qT0, zn_qF0, zn_qT1, zn_qF1, zn_hT0, zn_hF0, zn_hT7, zn_hF7, zn_sb, pk_us, zn_us, h, h']
      first | exact ⟨rfl, R _⟩ | exact R _
    · simp (disch := omega) only [zn_k4, zn_k8, zn_k16, zn_k32, zn_m16, zn_a64, zn_a128, nI_add, nI_1, nI_clamp, vp_in_nI, true_and, and_true, forall_eq, zn_rN, zn_rB, zn_rO, zn_rE, zn_vb0, zn_vb1, zn_b1, zn_b0, zn_d1, zn_d0, zn_e1, zn_e0, zn_wN, zn_wB1, zn_wB0, zn_wO, zn_wOd, zn_wO0, zn_wE, zn_wEe, zn_wE0, zn_leT, zn_leF, zn_ltT, zn_ltF, zn_eqF, zn_eqT, zn_lt0, zn_0le, zn_d2a, zn_d2b, zn_e1a, zn_e1b, zn_10, zn_00, zn_sh4, zn_an15, true_imp_iff, false_imp_iff, imp_true_iff, not_true_eq_false, not_false_eq_true, zn_gT4, zn_gF4, zn_gT8, zn_gF8, zn_gT12, zn_gF12, zn_gT48, zn_gF48, zn_gT124, zn_gF124, zn_gT128, zn_gF128, zn_gT560, zn_gF560, zn_lT7, zn_lF7, zn_lT120, zn_lF120, zn_qT7, zn_qF7, zn_qT120, zn_qF120, zn_qT0, zn_qF0, zn_qT1, zn_qF1, zn_hT0, zn_hF0, zn_hT7, zn_hF7, zn_sb, pk_us, zn_us, h, h', zr_nn h (by omega)]
      first | exact ⟨rfl, R _⟩ | exact R _
    · simp (disch := omega) only [zn_k4, zn_k8, zn_k16, zn_k32, zn_m16, zn_a64, zn_a128, nI_add, nI_1, nI_clamp, vp_in_nI, true_and, and_true, forall_eq, zn_rN, zn_rB, zn_rO, zn_rE, zn_vb0, zn_vb1, zn_b1, zn_b0, zn_d1, zn_d0, zn_e1, zn_e0, zn_wN, zn_wB1, zn_wB0, zn_wO, zn_wOd, zn_wO0, zn_wE, zn_wEe, zn_wE0, zn_leT, zn_leF, zn_ltT, zn_ltF, zn_eqF, zn_eqT, zn_lt0, zn_0le, zn_d2a, zn_d2b, zn_e1a, zn_e1b, zn_10, zn_00, zn_sh4, zn_an15, true_imp_iff, false_imp_iff, imp_true_iff, not_true_eq_false, not_false_eq_true, zn_gT4, zn_gF4, zn_gT8, zn_gF8, zn_gT12, zn_gF12, zn_gT48, zn_gF48, zn_gT124, zn_gF124, zn_gT128, zn_gF128, zn_gT560, zn_gF560, zn_lT7, zn_lF7, zn_lT120, zn_lF120, zn_qT7, zn_qF7, zn_qT120, zn_qF120, zn_qT0, zn_qF0, zn_qT1, zn_qF1, zn_hT0, zn_hF0, zn_hT7, zn_hF7, zn_sb, pk_us, zn_us, h']
      first | exact ⟨rfl, R _⟩ | exact R _
  · rcases pk_ix v1 (n := n) (by omega) with h | h | ⟨p, hp, rfl⟩
    · simp (disch := omega) only [zn_k4, zn_k8, zn_k16, zn_k32, zn_m16, zn_a64, zn_a128, nI_add, nI_1, nI_clamp, vp_in_nI, true_and, and_true, forall_eq, zn_rN, zn_rB, zn_rO, zn_rE, zn_vb0, zn_vb1, zn_b1, zn_b0, zn_d1, zn_d0, zn_e1, zn_e0, zn_wN, zn_wB1, zn_wB0, zn_wO, zn_wOd, zn_wO0, zn_wE, zn_wEe, zn_wE0, zn_leT, zn_leF, zn_ltT, zn_ltF, zn_eqF, zn_eqT, zn_lt0, zn_0le, zn_d2a, zn_d2b, zn_e1a, zn_e1b, zn_10, zn_00, zn_sh4, zn_an15, true_imp_iff, false_imp_iff, imp_true_iff, not_true_eq_false, not_false_eq_true, zn_gT4, zn_gF4, zn_gT8, zn_gF8, zn_gT12, zn_gF12, zn_gT48, zn_gF48, zn_gT124, zn_gF124, zn_gT128, zn_gF128, zn_gT560, zn_gF560, zn_lT7, zn_lF7, zn_lT120, zn_lF120, zn_qT7, zn_qF7, zn_qT120, zn_qF120, zn_qT0, zn_qF0, zn_qT1, zn_qF1, zn_hT0, zn_hF0, zn_hT7, zn_hF7, zn_sb, pk_us, zn_us, h, h', zr_nn h' (by omega)]
      first | exact ⟨rfl, R _⟩ | exact R _
    · simp (disch := omega) only [zn_k4, zn_k8, zn_k16, zn_k32, zn_m16, zn_a64, zn_a128, nI_add, nI_1, nI_clamp, vp_in_nI, true_and, and_true, forall_eq, zn_rN, zn_rB, zn_rO, zn_rE, zn_vb0, zn_vb1, zn_b1, zn_b0, zn_d1, zn_d0, zn_e1, zn_e0, zn_wN, zn_wB1, zn_wB0, zn_wO, zn_wOd, zn_wO0, zn_wE, zn_wEe, zn_wE0, zn_leT, zn_leF, zn_ltT, zn_ltF, zn_eqF, zn_eqT, zn_lt0, zn_0le, zn_d2a, zn_d2b, zn_e1a, zn_e1b, zn_10, zn_00, zn_sh4, zn_an15, true_imp_iff, false_imp_iff, imp_true_iff, not_true_eq_false, not_false_eq_true, zn_gT4, zn_gF4, zn_gT8, zn_gF8, zn_gT12, zn_gF12, zn_gT48, zn_gF48, zn_gT124, zn_gF124, zn_gT128, zn_gF128, zn_gT560, zn_gF560, zn_lT7, zn_lF7, zn_lT120, zn_lF120, zn_qT7, zn_qF7, zn_qT120, zn_qF120, zn_qT0, zn_qF0, zn_qT1, zn_qF1, zn_hT0, zn_hF0, zn_hT7, zn_hF7, zn_sb, pk_us, zn_us, h, h', zr_nn h (by omega), zr_nn h' (by omega)]
      first | exact ⟨rfl, R _⟩ | exact R _
    · simp (disch := omega) only [zn_k4, zn_k8, zn_k16, zn_k32, zn_m16, zn_a64, zn_a128, nI_add, nI_1, nI_clamp, vp_in_nI, true_and, and_true, forall_eq, zn_rN, zn_rB, zn_rO, zn_rE, zn_vb0, zn_vb1, zn_b1, zn_b0, zn_d1, zn_d0, zn_e1, zn_e0, zn_wN, zn_wB1, zn_wB0, zn_wO, zn_wOd, zn_wO0, zn_wE, zn_wEe, zn_wE0, zn_leT, zn_leF, zn_ltT, zn_ltF, zn_eqF, zn_eqT, zn_lt0, zn_0le, zn_d2a, zn_d2b, zn_e1a, zn_e1b, zn_10, zn_00, zn_sh4, zn_an15, true_imp_iff, false_imp_iff, imp_true_iff, not_true_eq_false, not_false_eq_true, zn_gT4, zn_gF4, zn_gT8, zn_gF8, zn_gT12, zn_gF12, zn_gT48, zn_gF48, zn_gT124, zn_gF124, zn_gT128, zn_gF128, zn_gT560, zn_gF560, zn_lT7, zn_lF7, zn_lT120, zn_lF120, zn_qT7, zn_qF7, zn_qT120, zn_qF120, zn_qT0, zn_qF0, zn_qT1, zn_qF1, zn_hT0, zn_hF0, zn_hT7, zn_hF7, zn_sb, pk_us, zn_us, h', zr_nn h' (by omega)]
      first | exact ⟨rfl, R _⟩ | exact R _
  · rcases pk_ix v1 (n := n) (by omega) with h | h | ⟨p, hp, rfl⟩
    · by_cases h1 : v2 < 1
      · simp (disch := omega) only [zn_k4, zn_k8, zn_k16, zn_k32, zn_m16, zn_a64, zn_a128, nI_add, nI_1, nI_clamp, vp_in_nI, true_and, and_true, forall_eq, zn_rN, zn_rB, zn_rO, zn_rE, zn_vb0, zn_vb1, zn_b1, zn_b0, zn_d1, zn_d0, zn_e1, zn_e0, zn_wN, zn_wB1, zn_wB0, zn_wO, zn_wOd, zn_wO0, zn_wE, zn_wEe, zn_wE0, zn_leT, zn_leF, zn_ltT, zn_ltF, zn_eqF, zn_eqT, zn_lt0, zn_0le, zn_d2a, zn_d2b, zn_e1a, zn_e1b, zn_10, zn_00, zn_sh4, zn_an15, true_imp_iff, false_imp_iff, imp_true_iff, not_true_eq_false, not_false_eq_true, zn_gT4, zn_gF4, zn_gT8, zn_gF8, zn_gT12, zn_gF12, zn_gT48, zn_gF48, zn_gT124, zn_gF124, zn_gT128, zn_gF128, zn_gT560, zn_gF560, zn_lT7, zn_lF7, zn_lT120, zn_lF120, zn_qT7, zn_qF7, zn_qT120, zn_qF120, zn_qT0, zn_qF0, zn_qT1, zn_qF1, zn_hT0, zn_hF0, zn_hT7, zn_hF7, zn_sb, pk_us, zn_us, h, h1]
        first | exact ⟨rfl, R _⟩ | exact R _
      · simp (disch := omega) only [zn_k4, zn_k8, zn_k16, zn_k32, zn_m16, zn_a64, zn_a128, nI_add, nI_1, nI_clamp, vp_in_nI, true_and, and_true, forall_eq, zn_rN, zn_rB, zn_rO, zn_rE, zn_vb0, zn_vb1, zn_b1, zn_b0, zn_d1, zn_d0, zn_e1, zn_e0, zn_wN, zn_wB1, zn_wB0, zn_wO, zn_wOd, zn_wO0, zn_wE, zn_wEe, zn_wE0, zn_leT, zn_leF, zn_ltT, zn_ltF, zn_eqF, zn_eqT, zn_lt0, zn_0le, zn_d2a, zn_d2b, zn_e1a, zn_e1b, zn_10, zn_00, zn_sh4, zn_an15, true_imp_iff, false_imp_iff, imp_true_iff, not_true_eq_false, not_false_eq_true, zn_gT4, zn_gF4, zn_gT8, zn_gF8, zn_gT12, zn_gF12, zn_gT48, zn_gF48, zn_gT124, zn_gF124, zn_gT128, zn_gF128, zn_gT560, zn_gF560, zn_lT7, zn_lF7, zn_lT120, zn_lF120, zn_qT7, zn_qF7, zn_qT120, zn_qF120, zn_qT0, zn_qF0, zn_qT1, zn_qF1, zn_hT0, zn_hF0, zn_hT7, zn_hF7, zn_sb, pk_us, zn_us, h, h1]
        first | exact ⟨rfl, R _⟩ | exact R _
    · by_cases h1 : v2 < 1
      · simp (disch := omega) only [zn_k4, zn_k8, zn_k16, zn_k32, zn_m16, zn_a64, zn_a128, nI_add, nI_1, nI_clamp, vp_in_nI, true_and, and_true, forall_eq, zn_rN, zn_rB, zn_rO, zn_rE, zn_vb0, zn_vb1, zn_b1, zn_b0, zn_d1, zn_d0, zn_e1, zn_e0, zn_wN, zn_wB1, zn_wB0, zn_wO, zn_wOd, zn_wO0, zn_wE, zn_wEe, zn_wE0, zn_leT, zn_leF, zn_ltT, zn_ltF, zn_eqF, zn_eqT, zn_lt0, zn_0le, zn_d2a, zn_d2b, zn_e1a, zn_e1b, zn_10, zn_00, zn_sh4, zn_an15, true_imp_iff, false_imp_iff, imp_true_iff, not_true_eq_false, not_false_eq_true, zn_gT4, zn_gF4, zn_gT8, zn_gF8, zn_gT12, zn_gF12, zn_gT48, zn_gF48, zn_gT124, zn_gF124, zn_gT128, zn_gF128, zn_gT560, zn_gF560, zn_lT7, zn_lF7, zn_lT120, zn_lF120, zn_qT7, zn_qF7, zn_qT120, zn_qF120, zn_qT0, zn_qF0, zn_qT1, zn_qF1, zn_hT0, zn_hF0, zn_hT7, zn_hF7, zn_sb, pk_us, zn_us, h, h1, zr_nn h (by omega)]
        first | exact ⟨rfl, R _⟩ | exact R _
      · simp (disch := omega) only [zn_k4, zn_k8, zn_k16, zn_k32, zn_m16, zn_a64, zn_a128, nI_add, nI_1, nI_clamp, vp_in_nI, true_and, and_true, forall_eq, zn_rN, zn_rB, zn_rO, zn_rE, zn_vb0, zn_vb1, zn_b1, zn_b0, zn_d1, zn_d0, zn_e1, zn_e0, zn_wN, zn_wB1, zn_wB0, zn_wO, zn_wOd, zn_wO0, zn_wE, zn_wEe, zn_wE0, zn_leT, zn_leF, zn_ltT, zn_ltF, zn_eqF, zn_eqT, zn_lt0, zn_0le, zn_d2a, zn_d2b, zn_e1a, zn_e1b, zn_10, zn_00, zn_sh4, zn_an15, true_imp_iff, false_imp_iff, imp_true_iff, not_true_eq_false, not_false_eq_true, zn_gT4, zn_gF4, zn_gT8, zn_gF8, zn_gT12, zn_gF12, zn_gT48, zn_gF48, zn_gT124, zn_gF124, zn_gT128, zn_gF128, zn_gT560, zn_gF560, zn_lT7, zn_lF7, zn_lT120, zn_lF120, zn_qT7, zn_qF7, zn_qT120, zn_qF120, zn_qT0, zn_qF0, zn_qT1, zn_qF1, zn_hT0, zn_hF0, zn_hT7, zn_hF7, zn_sb, pk_us, zn_us, h, h1, zr_nn h (by omega)]
        first | exact ⟨rfl, R _⟩ | exact R _
    · have hix := hb1.1 p
      rcases pk_ix v2 (n := ix p + 1) (by omega) with h | h | ⟨i, hi, rfl⟩
      · simp (disch := omega) only [zn_k4, zn_k8, zn_k16, zn_k32, zn_m16, zn_a64, zn_a128, nI_add, nI_1, nI_clamp, vp_in_nI, true_and, and_true, forall_eq, zn_rN, zn_rB, zn_rO, zn_rE, zn_vb0, zn_vb1, zn_b1, zn_b0, zn_d1, zn_d0, zn_e1, zn_e0, zn_wN, zn_wB1, zn_wB0, zn_wO, zn_wOd, zn_wO0, zn_wE, zn_wEe, zn_wE0, zn_leT, zn_leF, zn_ltT, zn_ltF, zn_eqF, zn_eqT, zn_lt0, zn_0le, zn_d2a, zn_d2b, zn_e1a, zn_e1b, zn_10, zn_00, zn_sh4, zn_an15, true_imp_iff, false_imp_iff, imp_true_iff, not_true_eq_false, not_false_eq_true, zn_gT4, zn_gF4, zn_gT8, zn_gF8, zn_gT12, zn_gF12, zn_gT48, zn_gF48, zn_gT124, zn_gF124, zn_gT128, zn_gF128, zn_gT560, zn_gF560, zn_lT7, zn_lF7, zn_lT120, zn_lF120, zn_qT7, zn_qF7, zn_qT120, zn_qF120, zn_qT0, zn_qF0, zn_qT1, zn_qF1, zn_hT0, zn_hF0, zn_hT7, zn_hF7, zn_sb, pk_us, zn_us, h, hl1 v2 h]
        first | exact ⟨rfl, R _⟩ | exact R _
      · have h1 := zr_le (n := ix p + 1) (a := ix p) h (by omega) (by omega)
        have h2 : (nI (ix p) < v2) = True := eq_true (Int32.not_le.mp (fun z => by rw [h1] at z; exact z))
        have h3 : (v2 < 1) = False := eq_false (fun z => absurd (Int32.lt_of_le_of_lt h z) (nI_nlt (a := ix p + 1) (b := 1) (by omega) (by omega)))
        simp (disch := omega) only [zn_k4, zn_k8, zn_k16, zn_k32, zn_m16, zn_a64, zn_a128, nI_add, nI_1, nI_clamp, vp_in_nI, true_and, and_true, forall_eq, zn_rN, zn_rB, zn_rO, zn_rE, zn_vb0, zn_vb1, zn_b1, zn_b0, zn_d1, zn_d0, zn_e1, zn_e0, zn_wN, zn_wB1, zn_wB0, zn_wO, zn_wOd, zn_wO0, zn_wE, zn_wEe, zn_wE0, zn_leT, zn_leF, zn_ltT, zn_ltF, zn_eqF, zn_eqT, zn_lt0, zn_0le, zn_d2a, zn_d2b, zn_e1a, zn_e1b, zn_10, zn_00, zn_sh4, zn_an15, true_imp_iff, false_imp_iff, imp_true_iff, not_true_eq_false, not_false_eq_true, zn_gT4, zn_gF4, zn_gT8, zn_gF8, zn_gT12, zn_gF12, zn_gT48, zn_gF48, zn_gT124, zn_gF124, zn_gT128, zn_gF128, zn_gT560, zn_gF560, zn_lT7, zn_lF7, zn_lT120, zn_lF120, zn_qT7, zn_qF7, zn_qT120, zn_qF120, zn_qT0, zn_qF0, zn_qT1, zn_qF1, zn_hT0, zn_hF0, zn_hT7, zn_hF7, zn_sb, pk_us, zn_us, h1, h2, h3, zr_nn (n := ix p + 1) h (by omega)]
        first | exact ⟨rfl, R _⟩ | exact R _
      · by_cases h1 : i = 0
        · simp (disch := omega) only [zn_k4, zn_k8, zn_k16, zn_k32, zn_m16, zn_a64, zn_a128, nI_add, nI_1, nI_clamp, vp_in_nI, true_and, and_true, forall_eq, zn_rN, zn_rB, zn_rO, zn_rE, zn_vb0, zn_vb1, zn_b1, zn_b0, zn_d1, zn_d0, zn_e1, zn_e0, zn_wN, zn_wB1, zn_wB0, zn_wO, zn_wOd, zn_wO0, zn_wE, zn_wEe, zn_wE0, zn_leT, zn_leF, zn_ltT, zn_ltF, zn_eqF, zn_eqT, zn_lt0, zn_0le, zn_d2a, zn_d2b, zn_e1a, zn_e1b, zn_10, zn_00, zn_sh4, zn_an15, true_imp_iff, false_imp_iff, imp_true_iff, not_true_eq_false, not_false_eq_true, zn_gT4, zn_gF4, zn_gT8, zn_gF8, zn_gT12, zn_gF12, zn_gT48, zn_gF48, zn_gT124, zn_gF124, zn_gT128, zn_gF128, zn_gT560, zn_gF560, zn_lT7, zn_lF7, zn_lT120, zn_lF120, zn_qT7, zn_qF7, zn_qT120, zn_qF120, zn_qT0, zn_qF0, zn_qT1, zn_qF1, zn_hT0, zn_hF0, zn_hT7, zn_hF7, zn_sb, pk_us, zn_us, zn_lT1]
          first | exact ⟨rfl, R _⟩ | exact R _
        · have h0 := hch.1 p i hp (by omega)
          have e := (hv p i x hp (by omega) (by omega)).2 (by omega)
          have hg := hG.2.1 _ h0.1
          have e2 : (64 + p * 16 + i) * 4 + x = (64 + (p * 16 + i)) * 4 + x := by omega
          simp (disch := omega) only [zn_k4, zn_k8, zn_k16, zn_k32, zn_m16, zn_a64, zn_a128, nI_add, nI_1, nI_clamp, vp_in_nI, true_and, and_true, forall_eq, zn_rN, zn_rB, zn_rO, zn_rE, zn_vb0, zn_vb1, zn_b1, zn_b0, zn_d1, zn_d0, zn_e1, zn_e0, zn_wN, zn_wB1, zn_wB0, zn_wO, zn_wOd, zn_wO0, zn_wE, zn_wEe, zn_wE0, zn_leT, zn_leF, zn_ltT, zn_ltF, zn_eqF, zn_eqT, zn_lt0, zn_0le, zn_d2a, zn_d2b, zn_e1a, zn_e1b, zn_10, zn_00, zn_sh4, zn_an15, true_imp_iff, false_imp_iff, imp_true_iff, not_true_eq_false, not_false_eq_true, zn_gT4, zn_gF4, zn_gT8, zn_gF8, zn_gT12, zn_gF12, zn_gT48, zn_gF48, zn_gT124, zn_gF124, zn_gT128, zn_gF128, zn_gT560, zn_gF560, zn_lT7, zn_lF7, zn_lT120, zn_lF120, zn_qT7, zn_qF7, zn_qT120, zn_qF120, zn_qT0, zn_qF0, zn_qT1, zn_qF1, zn_hT0, zn_hF0, zn_hT7, zn_hF7, zn_sb, pk_us, zn_us, zn_lF1, e2, e]
          refine zy_gr (m := gf (ch (p * 16 + i))) hG (by omega) (by omega) (by omega) hb3.1 hb3.2.1 hb3.2.2.1 (fun b => ?_)
          rw [zr_great (by omega) hG hb3 hD (by omega) x]
          exact ⟨rfl, R b⟩
theorem zt_process {v1 v2 : Int32} (F : zr_F n sc lm sv rl bg ix ic st en xo xp xt xk xl xm gp gi gx go ch to gq gf sf xup yup kn fl xs gs gm gv gr ga xv xrs xrr xra xss P D) : wpX_process (fun r => wpY_process (fun r' => r' = r ∧ i_Rel (k + 4) (nI n, nI sc, nI lm, nI sv, nI rl, nI bg, zc_B xup, zc_N ix, zc_N ic, zc_N st, un, rp, dc, xv, zc_B xs, zc_N xo, xrs, xrr, xra, zc_O xp, zc_O xt, xss, sr, sa, zc_N en, zc_N xk, zc_N xl, zc_E xm, op, ol, ov) (nI n, nI sc, nI lm, nI sv, nI bg, nI rl, zc_N gp, zc_N gi, zc_N gx, gv, zc_E gq, zc_E gf, gr, ga, zc_N go, zc_B gs, zc_B gm, zc_B yp, zc_B yup, zc_N ix, zc_N ic, zc_N st, un, rp, dc, zc_N ch, zc_N en, zc_B kn, zc_B fl, zc_N to, zc_E sf, sr, sa, op, ol, ov)) (nI n, nI sc, nI lm, nI sv, nI bg, nI rl, zc_N gp, zc_N gi, zc_N gx, gv, zc_E gq, zc_E gf, gr, ga, zc_N go, zc_B gs, zc_B gm, zc_B yp, zc_B yup, zc_N ix, zc_N ic, zc_N st, un, rp, dc, zc_N ch, zc_N en, zc_B kn, zc_B fl, zc_N to, zc_E sf, sr, sa, op, ol, ov) v1 v2) (nI n, nI sc, nI lm, nI sv, nI rl, nI bg, zc_B xup, zc_N ix, zc_N ic, zc_N st, un, rp, dc, xv, zc_B xs, zc_N xo, xrs, xrr, xra, zc_O xp, zc_O xt, xss, sr, sa, zc_N en, zc_N xk, zc_N xl, zc_E xm, op, ol, ov) v1 v2 := by
  have R : i_Rel (k + 4) (nI n, nI sc, nI lm, nI sv, nI rl, nI bg, zc_B xup, zc_N ix, zc_N ic, zc_N st, un, rp, dc, xv, zc_B xs, zc_N xo, xrs, xrr, xra, zc_O xp, zc_O xt, xss, sr, sa, zc_N en, zc_N xk, zc_N xl, zc_E xm, op, ol, ov) (nI n, nI sc, nI lm, nI sv, nI bg, nI rl, zc_N gp, zc_N gi, zc_N gx, gv, zc_E gq, zc_E gf, gr, ga, zc_N go, zc_B gs, zc_B gm, zc_B yp, zc_B yup, zc_N ix, zc_N ic, zc_N st, un, rp, dc, zc_N ch, zc_N en, zc_B kn, zc_B fl, zc_N to, zc_E sf, sr, sa, op, ol, ov) := zr_mk F
  obtain ⟨hnum, hb1, hb2, hb3, hup, hk1, hk2, hG, hiv, hD, hcur, hch, hK, hv, hd, hsl, hm, hsm, hfr, hsv⟩ := F
  obtain ⟨hn, hsc, hlm, hsvn, hrl, hbg⟩ := hnum
  have hix12 : ∀ j, ix j ≤ 12 := fun j => Nat.le_trans (hb1.1 j) hlm.2
  unfold wpX_process wpY_process wpX_isProcess wpY_isProcess
  rcases pk_ix v1 (n := n) (by omega) with h | h | ⟨p, hp, rfl⟩
  · simp (disch := omega) only [zn_k4, zn_k8, zn_k16, zn_k32, zn_m16, zn_a64, zn_a128, nI_add, nI_1, nI_clamp, vp_in_nI, true_and, and_true, forall_eq, zn_rN, zn_rB, zn_rO, zn_rE, zn_vb0, zn_vb1, zn_b1, zn_b0, zn_d1, zn_d0, zn_e1, zn_e0, zn_wN, zn_wB1, zn_wB0, zn_wO, zn_wOd, zn_wO0, zn_wE, zn_wEe, zn_wE0, zn_leT, zn_leF, zn_ltT, zn_ltF, zn_eqF, zn_eqT, zn_lt0, zn_0le, zn_d2a, zn_d2b, zn_e1a, zn_e1b, zn_10, zn_00, zn_sh4, zn_an15, true_imp_iff, false_imp_iff, imp_true_iff, not_true_eq_false, not_false_eq_true, zn_gT4, zn_gF4, zn_gT8, zn_gF8, zn_gT12, zn_gF12, zn_gT48, zn_gF48, zn_gT124, zn_gF124, zn_gT128, zn_gF128, zn_gT560, zn_gF560, zn_lT7, zn_lF7, zn_lT120, zn_lF120, zn_qT7, zn_qF7, zn_qT120, zn_qF120, zn_qT0, zn_qF0, zn_qT1, zn_qF1, zn_hT0, zn_hF0, zn_hT7, zn_hF7, zn_sb, pk_us, zn_us, h]
    first | exact ⟨rfl, R⟩ | exact R
  · simp (disch := omega) only [zn_k4, zn_k8, zn_k16, zn_k32, zn_m16, zn_a64, zn_a128, nI_add, nI_1, nI_clamp, vp_in_nI, true_and, and_true, forall_eq, zn_rN, zn_rB, zn_rO, zn_rE, zn_vb0, zn_vb1, zn_b1, zn_b0, zn_d1, zn_d0, zn_e1, zn_e0, zn_wN, zn_wB1, zn_wB0, zn_wO, zn_wOd, zn_wO0, zn_wE, zn_wEe, zn_wE0, zn_leT, zn_leF, zn_ltT, zn_ltF, zn_eqF, zn_eqT, zn_lt0, zn_0le, zn_d2a, zn_d2b, zn_e1a, zn_e1b, zn_10, zn_00, zn_sh4, zn_an15, true_imp_iff, false_imp_iff, imp_true_iff, not_true_eq_false, not_false_eq_true, zn_gT4, zn_gF4, zn_gT8, zn_gF8, zn_gT12, zn_gF12, zn_gT48, zn_gF48, zn_gT124, zn_gF124, zn_gT128, zn_gF128, zn_gT560, zn_gF560, zn_lT7, zn_lF7, zn_lT120, zn_lF120, zn_qT7, zn_qF7, zn_qT120, zn_qF120, zn_qT0, zn_qF0, zn_qT1, zn_qF1, zn_hT0, zn_hF0, zn_hT7, zn_hF7, zn_sb, pk_us, zn_us, h, zr_nn h (by omega)]
    first | exact ⟨rfl, R⟩ | exact R
  · have hpx := hix12 p
    rcases pk_ix v2 (n := 9) (by omega) with h | h | ⟨c, hc, rfl⟩
    · have hne : ∀ a : Int32, 0 ≤ a → (v2 = a) = False := fun a ha => eq_false (fun z => by rw [z] at h; exact absurd (Int32.lt_of_le_of_lt ha h) Int32.lt_irrefl)
      simp (disch := omega) only [zn_k4, zn_k8, zn_k16, zn_k32, zn_m16, zn_a64, zn_a128, nI_add, nI_1, nI_clamp, vp_in_nI, true_and, and_true, forall_eq, zn_rN, zn_rB, zn_rO, zn_rE, zn_vb0, zn_vb1, zn_b1, zn_b0, zn_d1, zn_d0, zn_e1, zn_e0, zn_wN, zn_wB1, zn_wB0, zn_wO, zn_wOd, zn_wO0, zn_wE, zn_wEe, zn_wE0, zn_leT, zn_leF, zn_ltT, zn_ltF, zn_eqF, zn_eqT, zn_lt0, zn_0le, zn_d2a, zn_d2b, zn_e1a, zn_e1b, zn_10, zn_00, zn_sh4, zn_an15, true_imp_iff, false_imp_iff, imp_true_iff, not_true_eq_false, not_false_eq_true, zn_gT4, zn_gF4, zn_gT8, zn_gF8, zn_gT12, zn_gF12, zn_gT48, zn_gF48, zn_gT124, zn_gF124, zn_gT128, zn_gF128, zn_gT560, zn_gF560, zn_lT7, zn_lF7, zn_lT120, zn_lF120, zn_qT7, zn_qF7, zn_qT120, zn_qF120, zn_qT0, zn_qF0, zn_qT1, zn_qF1, zn_hT0, zn_hF0, zn_hT7, zn_hF7, zn_sb, pk_us, zn_us, h, hne 0 (by decide), hne 1 (by decide), hne 2 (by decide), hne 3 (by decide), hne 4 (by decide), hne 5 (by decide), hne 6 (by decide), hne 7 (by decide), hne 8 (by decide)]
      first | exact ⟨rfl, R⟩ | exact R
    · have h8 : (8 < v2) = True := eq_true (Int32.lt_of_lt_of_le (by decide : (8 : Int32) < nI 9) h)
      have hne : ∀ a : Int32, a < nI 9 → (v2 = a) = False := fun a ha => eq_false (fun z => by rw [z] at h; exact absurd (Int32.lt_of_le_of_lt h ha) Int32.lt_irrefl)
      simp (disch := omega) only [zn_k4, zn_k8, zn_k16, zn_k32, zn_m16, zn_a64, zn_a128, nI_add, nI_1, nI_clamp, vp_in_nI, true_and, and_true, forall_eq, zn_rN, zn_rB, zn_rO, zn_rE, zn_vb0, zn_vb1, zn_b1, zn_b0, zn_d1, zn_d0, zn_e1, zn_e0, zn_wN, zn_wB1, zn_wB0, zn_wO, zn_wOd, zn_wO0, zn_wE, zn_wEe, zn_wE0, zn_leT, zn_leF, zn_ltT, zn_ltF, zn_eqF, zn_eqT, zn_lt0, zn_0le, zn_d2a, zn_d2b, zn_e1a, zn_e1b, zn_10, zn_00, zn_sh4, zn_an15, true_imp_iff, false_imp_iff, imp_true_iff, not_true_eq_false, not_false_eq_true, zn_gT4, zn_gF4, zn_gT8, zn_gF8, zn_gT12, zn_gF12, zn_gT48, zn_gF48, zn_gT124, zn_gF124, zn_gT128, zn_gF128, zn_gT560, zn_gF560, zn_lT7, zn_lF7, zn_lT120, zn_lF120, zn_qT7, zn_qF7, zn_qT120, zn_qF120, zn_qT0, zn_qF0, zn_qT1, zn_qF1, zn_hT0, zn_hF0, zn_hT7, zn_hF7, zn_sb, pk_us, zn_us, h8, zr_nn (n := 9) h (by omega), hne 0 (by decide), hne 1 (by decide), hne 2 (by decide), hne 3 (by decide), hne 4 (by decide), hne 5 (by decide), hne 6 (by decide), hne 7 (by decide), hne 8 (by decide)]
      first | exact ⟨rfl, R⟩ | exact R
    · have h8 : (8 < nI c) = False := eq_false (nI_nlt (a := 8) (by omega) (by decide))
      have hq0 := hup p hp
      match c, hc with
      | 0, _ =>
        cases hy : yup p with
        | false =>
          simp (disch := omega) only [zn_k4, zn_k8, zn_k16, zn_k32, zn_m16, zn_a64, zn_a128, nI_add, nI_1, nI_clamp, vp_in_nI, true_and, and_true, forall_eq, zn_rN, zn_rB, zn_rO, zn_rE, zn_vb0, zn_vb1, zn_b1, zn_b0, zn_d1, zn_d0, zn_e1, zn_e0, zn_wN, zn_wB1, zn_wB0, zn_wO, zn_wOd, zn_wO0, zn_wE, zn_wEe, zn_wE0, zn_leT, zn_leF, zn_ltT, zn_ltF, zn_eqF, zn_eqT, zn_lt0, zn_0le, zn_d2a, zn_d2b, zn_e1a, zn_e1b, zn_10, zn_00, zn_sh4, zn_an15, true_imp_iff, false_imp_iff, imp_true_iff, not_true_eq_false, not_false_eq_true, zn_gT4, zn_gF4, zn_gT8, zn_gF8, zn_gT12, zn_gF12, zn_gT48, zn_gF48, zn_gT124, zn_gF124, zn_gT128, zn_gF128, zn_gT560, zn_gF560, zn_lT7, zn_lF7, zn_lT120, zn_lF120, zn_qT7, zn_qF7, zn_qT120, zn_qF120, zn_qT0, zn_qF0, zn_qT1, zn_qF1, zn_hT0, zn_hF0, zn_hT7, zn_hF7, zn_sb, pk_us, zn_us, h8, hq0.1, hy]
          first | exact ⟨rfl, R⟩ | exact R
        | true =>
          simp (disch := omega) only [zn_k4, zn_k8, zn_k16, zn_k32, zn_m16, zn_a64, zn_a128, nI_add, nI_1, nI_clamp, vp_in_nI, true_and, and_true, forall_eq, zn_rN, zn_rB, zn_rO, zn_rE, zn_vb0, zn_vb1, zn_b1, zn_b0, zn_d1, zn_d0, zn_e1, zn_e0, zn_wN, zn_wB1, zn_wB0, zn_wO, zn_wOd, zn_wO0, zn_wE, zn_wEe, zn_wE0, zn_leT, zn_leF, zn_ltT, zn_ltF, zn_eqF, zn_eqT, zn_lt0, zn_0le, zn_d2a, zn_d2b, zn_e1a, zn_e1b, zn_10, zn_00, zn_sh4, zn_an15, true_imp_iff, false_imp_iff, imp_true_iff, not_true_eq_false, not_false_eq_true, zn_gT4, zn_gF4, zn_gT8, zn_gF8, zn_gT12, zn_gF12, zn_gT48, zn_gF48, zn_gT124, zn_gF124, zn_gT128, zn_gF128, zn_gT560, zn_gF560, zn_lT7, zn_lF7, zn_lT120, zn_lF120, zn_qT7, zn_qF7, zn_qT120, zn_qF120, zn_qT0, zn_qF0, zn_qT1, zn_qF1, zn_hT0, zn_hF0, zn_hT7, zn_hF7, zn_sb, pk_us, zn_us, h8, hq0.1, hy]
          first | exact ⟨rfl, R⟩ | exact R
      | 1, _ =>
        simp (disch := omega) only [zn_k4, zn_k8, zn_k16, zn_k32, zn_m16, zn_a64, zn_a128, nI_add, nI_1, nI_clamp, vp_in_nI, true_and, and_true, forall_eq, zn_rN, zn_rB, zn_rO, zn_rE, zn_vb0, zn_vb1, zn_b1, zn_b0, zn_d1, zn_d0, zn_e1, zn_e0, zn_wN, zn_wB1, zn_wB0, zn_wO, zn_wOd, zn_wO0, zn_wE, zn_wEe, zn_wE0, zn_leT, zn_leF, zn_ltT, zn_ltF, zn_eqF, zn_eqT, zn_lt0, zn_0le, zn_d2a, zn_d2b, zn_e1a, zn_e1b, zn_10, zn_00, zn_sh4, zn_an15, true_imp_iff, false_imp_iff, imp_true_iff, not_true_eq_false, not_false_eq_true, zn_gT4, zn_gF4, zn_gT8, zn_gF8, zn_gT12, zn_gF12, zn_gT48, zn_gF48, zn_gT124, zn_gF124, zn_gT128, zn_gF128, zn_gT560, zn_gF560, zn_lT7, zn_lF7, zn_lT120, zn_lF120, zn_qT7, zn_qF7, zn_qT120, zn_qF120, zn_qT0, zn_qF0, zn_qT1, zn_qF1, zn_hT0, zn_hF0, zn_hT7, zn_hF7, zn_sb, pk_us, zn_us, h8]
        first | exact ⟨rfl, R⟩ | exact R
      | 2, _ =>
        simp (disch := omega) only [zn_k4, zn_k8, zn_k16, zn_k32, zn_m16, zn_a64, zn_a128, nI_add, nI_1, nI_clamp, vp_in_nI, true_and, and_true, forall_eq, zn_rN, zn_rB, zn_rO, zn_rE, zn_vb0, zn_vb1, zn_b1, zn_b0, zn_d1, zn_d0, zn_e1, zn_e0, zn_wN, zn_wB1, zn_wB0, zn_wO, zn_wOd, zn_wO0, zn_wE, zn_wEe, zn_wE0, zn_leT, zn_leF, zn_ltT, zn_ltF, zn_eqF, zn_eqT, zn_lt0, zn_0le, zn_d2a, zn_d2b, zn_e1a, zn_e1b, zn_10, zn_00, zn_sh4, zn_an15, true_imp_iff, false_imp_iff, imp_true_iff, not_true_eq_false, not_false_eq_true, zn_gT4, zn_gF4, zn_gT8, zn_gF8, zn_gT12, zn_gF12, zn_gT48, zn_gF48, zn_gT124, zn_gF124, zn_gT128, zn_gF128, zn_gT560, zn_gF560, zn_lT7, zn_lF7, zn_lT120, zn_lF120, zn_qT7, zn_qF7, zn_qT120, zn_qF120, zn_qT0, zn_qF0, zn_qT1, zn_qF1, zn_hT0, zn_hF0, zn_hT7, zn_hF7, zn_sb, pk_us, zn_us, h8, zn_qT2]
        first | exact ⟨rfl, R⟩ | exact R
      | 3, _ =>
        simp (disch := omega) only [zn_k4, zn_k8, zn_k16, zn_k32, zn_m16, zn_a64, zn_a128, nI_add, nI_1, nI_clamp, vp_in_nI, true_and, and_true, forall_eq, zn_rN, zn_rB, zn_rO, zn_rE, zn_vb0, zn_vb1, zn_b1, zn_b0, zn_d1, zn_d0, zn_e1, zn_e0, zn_wN, zn_wB1, zn_wB0, zn_wO, zn_wOd, zn_wO0, zn_wE, zn_wEe, zn_wE0, zn_leT, zn_leF, zn_ltT, zn_ltF, zn_eqF, zn_eqT, zn_lt0, zn_0le, zn_d2a, zn_d2b, zn_e1a, zn_e1b, zn_10, zn_00, zn_sh4, zn_an15, true_imp_iff, false_imp_iff, imp_true_iff, not_true_eq_false, not_false_eq_true, zn_gT4, zn_gF4, zn_gT8, zn_gF8, zn_gT12, zn_gF12, zn_gT48, zn_gF48, zn_gT124, zn_gF124, zn_gT128, zn_gF128, zn_gT560, zn_gF560, zn_lT7, zn_lF7, zn_lT120, zn_lF120, zn_qT7, zn_qF7, zn_qT120, zn_qF120, zn_qT0, zn_qF0, zn_qT1, zn_qF1, zn_hT0, zn_hF0, zn_hT7, zn_hF7, zn_sb, pk_us, zn_us, h8, zn_qF2, zn_qT3]
        first | exact ⟨rfl, R⟩ | exact R
      | 4, _ =>
        simp (disch := omega) only [zn_k4, zn_k8, zn_k16, zn_k32, zn_m16, zn_a64, zn_a128, nI_add, nI_1, nI_clamp, vp_in_nI, true_and, and_true, forall_eq, zn_rN, zn_rB, zn_rO, zn_rE, zn_vb0, zn_vb1, zn_b1, zn_b0, zn_d1, zn_d0, zn_e1, zn_e0, zn_wN, zn_wB1, zn_wB0, zn_wO, zn_wOd, zn_wO0, zn_wE, zn_wEe, zn_wE0, zn_leT, zn_leF, zn_ltT, zn_ltF, zn_eqF, zn_eqT, zn_lt0, zn_0le, zn_d2a, zn_d2b, zn_e1a, zn_e1b, zn_10, zn_00, zn_sh4, zn_an15, true_imp_iff, false_imp_iff, imp_true_iff, not_true_eq_false, not_false_eq_true, zn_gT4, zn_gF4, zn_gT8, zn_gF8, zn_gT12, zn_gF12, zn_gT48, zn_gF48, zn_gT124, zn_gF124, zn_gT128, zn_gF128, zn_gT560, zn_gF560, zn_lT7, zn_lF7, zn_lT120, zn_lF120, zn_qT7, zn_qF7, zn_qT120, zn_qF120, zn_qT0, zn_qF0, zn_qT1, zn_qF1, zn_hT0, zn_hF0, zn_hT7, zn_hF7, zn_sb, pk_us, zn_us, h8, zn_qF2, zn_qF3, zn_qT4]
        refine zx_saves (by omega) hix12 (zy_saves (by omega) hix12 hb3.2.2.2.2.1 ⟨congrArg nI ?_, R⟩)
        exact zf_cnt_cg _ _ (fun j h1 h2 => (hd p j hp (by omega)).2.1.symm)
      | 5, _ =>
        simp (disch := omega) only [zn_k4, zn_k8, zn_k16, zn_k32, zn_m16, zn_a64, zn_a128, nI_add, nI_1, nI_clamp, vp_in_nI, true_and, and_true, forall_eq, zn_rN, zn_rB, zn_rO, zn_rE, zn_vb0, zn_vb1, zn_b1, zn_b0, zn_d1, zn_d0, zn_e1, zn_e0, zn_wN, zn_wB1, zn_wB0, zn_wO, zn_wOd, zn_wO0, zn_wE, zn_wEe, zn_wE0, zn_leT, zn_leF, zn_ltT, zn_ltF, zn_eqF, zn_eqT, zn_lt0, zn_0le, zn_d2a, zn_d2b, zn_e1a, zn_e1b, zn_10, zn_00, zn_sh4, zn_an15, true_imp_iff, false_imp_iff, imp_true_iff, not_true_eq_false, not_false_eq_true, zn_gT4, zn_gF4, zn_gT8, zn_gF8, zn_gT12, zn_gF12, zn_gT48, zn_gF48, zn_gT124, zn_gF124, zn_gT128, zn_gF128, zn_gT560, zn_gF560, zn_lT7, zn_lF7, zn_lT120, zn_lF120, zn_qT7, zn_qF7, zn_qT120, zn_qF120, zn_qT0, zn_qF0, zn_qT1, zn_qF1, zn_hT0, zn_hF0, zn_hT7, zn_hF7, zn_sb, pk_us, zn_us, h8, zn_qF2, zn_qF3, zn_qF4, zn_qT5, zn_qF6]
        have e8 : (nI 5 = 8) = False := by decide
        simp (disch := omega) only [zn_k4, zn_k8, zn_k16, zn_k32, zn_m16, zn_a64, zn_a128, nI_add, nI_1, nI_clamp, vp_in_nI, true_and, and_true, forall_eq, zn_rN, zn_rB, zn_rO, zn_rE, zn_vb0, zn_vb1, zn_b1, zn_b0, zn_d1, zn_d0, zn_e1, zn_e0, zn_wN, zn_wB1, zn_wB0, zn_wO, zn_wOd, zn_wO0, zn_wE, zn_wEe, zn_wE0, zn_leT, zn_leF, zn_ltT, zn_ltF, zn_eqF, zn_eqT, zn_lt0, zn_0le, zn_d2a, zn_d2b, zn_e1a, zn_e1b, zn_10, zn_00, zn_sh4, zn_an15, true_imp_iff, false_imp_iff, imp_true_iff, not_true_eq_false, not_false_eq_true, zn_gT4, zn_gF4, zn_gT8, zn_gF8, zn_gT12, zn_gF12, zn_gT48, zn_gF48, zn_gT124, zn_gF124, zn_gT128, zn_gF128, zn_gT560, zn_gF560, zn_lT7, zn_lF7, zn_lT120, zn_lF120, zn_qT7, zn_qF7, zn_qT120, zn_qF120, zn_qT0, zn_qF0, zn_qT1, zn_qF1, zn_hT0, zn_hF0, zn_hT7, zn_hF7, zn_sb, pk_us, zn_us, e8]
        refine zx_held (by omega) hix12 hb2.1 ⟨ix p + 2, zy_held_l (by omega) hpx hb3.2.2.2.2.1 hb3.2.2.2.1 (ix p + 1) 0 0 (by omega) (by omega) ⟨?_, R⟩⟩
        rw [Nat.zero_add]
        exact congrArg nI (zf_cnt_cg _ _ (fun j h1 h2 => by rw [(hd p j hp (by omega)).2.2.1]))
      | 6, _ =>
        simp (disch := omega) only [zn_k4, zn_k8, zn_k16, zn_k32, zn_m16, zn_a64, zn_a128, nI_add, nI_1, nI_clamp, vp_in_nI, true_and, and_true, forall_eq, zn_rN, zn_rB, zn_rO, zn_rE, zn_vb0, zn_vb1, zn_b1, zn_b0, zn_d1, zn_d0, zn_e1, zn_e0, zn_wN, zn_wB1, zn_wB0, zn_wO, zn_wOd, zn_wO0, zn_wE, zn_wEe, zn_wE0, zn_leT, zn_leF, zn_ltT, zn_ltF, zn_eqF, zn_eqT, zn_lt0, zn_0le, zn_d2a, zn_d2b, zn_e1a, zn_e1b, zn_10, zn_00, zn_sh4, zn_an15, true_imp_iff, false_imp_iff, imp_true_iff, not_true_eq_false, not_false_eq_true, zn_gT4, zn_gF4, zn_gT8, zn_gF8, zn_gT12, zn_gF12, zn_gT48, zn_gF48, zn_gT124, zn_gF124, zn_gT128, zn_gF128, zn_gT560, zn_gF560, zn_lT7, zn_lF7, zn_lT120, zn_lF120, zn_qT7, zn_qF7, zn_qT120, zn_qF120, zn_qT0, zn_qF0, zn_qT1, zn_qF1, zn_hT0, zn_hF0, zn_hT7, zn_hF7, zn_sb, pk_us, zn_us, h8, zn_qF2, zn_qF3, zn_qF4, zn_qF5, zn_qT6]
        first | exact ⟨rfl, R⟩ | exact R
      | 7, _ =>
        simp (disch := omega) only [zn_k4, zn_k8, zn_k16, zn_k32, zn_m16, zn_a64, zn_a128, nI_add, nI_1, nI_clamp, vp_in_nI, true_and, and_true, forall_eq, zn_rN, zn_rB, zn_rO, zn_rE, zn_vb0, zn_vb1, zn_b1, zn_b0, zn_d1, zn_d0, zn_e1, zn_e0, zn_wN, zn_wB1, zn_wB0, zn_wO, zn_wOd, zn_wO0, zn_wE, zn_wEe, zn_wE0, zn_leT, zn_leF, zn_ltT, zn_ltF, zn_eqF, zn_eqT, zn_lt0, zn_0le, zn_d2a, zn_d2b, zn_e1a, zn_e1b, zn_10, zn_00, zn_sh4, zn_an15, true_imp_iff, false_imp_iff, imp_true_iff, not_true_eq_false, not_false_eq_true, zn_gT4, zn_gF4, zn_gT8, zn_gF8, zn_gT12, zn_gF12, zn_gT48, zn_gF48, zn_gT124, zn_gF124, zn_gT128, zn_gF128, zn_gT560, zn_gF560, zn_lT7, zn_lF7, zn_lT120, zn_lF120, zn_qT7, zn_qF7, zn_qT120, zn_qF120, zn_qT0, zn_qF0, zn_qT1, zn_qF1, zn_hT0, zn_hF0, zn_hT7, zn_hF7, zn_sb, pk_us, zn_us, h8, zn_qF2, zn_qF3, zn_qF4, zn_qF5, zn_qF6, zn_qT7]
        first | exact ⟨rfl, R⟩ | exact R
      | 8, _ =>
        have e8 : (nI 8 = 8) = True := by decide
        simp (disch := omega) only [zn_k4, zn_k8, zn_k16, zn_k32, zn_m16, zn_a64, zn_a128, nI_add, nI_1, nI_clamp, vp_in_nI, true_and, and_true, forall_eq, zn_rN, zn_rB, zn_rO, zn_rE, zn_vb0, zn_vb1, zn_b1, zn_b0, zn_d1, zn_d0, zn_e1, zn_e0, zn_wN, zn_wB1, zn_wB0, zn_wO, zn_wOd, zn_wO0, zn_wE, zn_wEe, zn_wE0, zn_leT, zn_leF, zn_ltT, zn_ltF, zn_eqF, zn_eqT, zn_lt0, zn_0le, zn_d2a, zn_d2b, zn_e1a, zn_e1b, zn_10, zn_00, zn_sh4, zn_an15, true_imp_iff, false_imp_iff, imp_true_iff, not_true_eq_false, not_false_eq_true, zn_gT4, zn_gF4, zn_gT8, zn_gF8, zn_gT12, zn_gF12, zn_gT48, zn_gF48, zn_gT124, zn_gF124, zn_gT128, zn_gF128, zn_gT560, zn_gF560, zn_lT7, zn_lF7, zn_lT120, zn_lF120, zn_qT7, zn_qF7, zn_qT120, zn_qF120, zn_qT0, zn_qF0, zn_qT1, zn_qF1, zn_hT0, zn_hF0, zn_hT7, zn_hF7, zn_sb, pk_us, zn_us, h8, zn_qF2, zn_qF3, zn_qF4, zn_qF5, zn_qF6, zn_qF7, e8]
        first | exact ⟨rfl, R⟩ | exact R
theorem zt_interval {v1 v2 v3 : Int32} (F : zr_F n sc lm sv rl bg ix ic st en xo xp xt xk xl xm gp gi gx go ch to gq gf sf xup yup kn fl xs gs gm gv gr ga xv xrs xrr xra xss P D) : wpX_interval (fun r => wpY_interval (fun r' => r' = r ∧ i_Rel (k + 4) (nI n, nI sc, nI lm, nI sv, nI rl, nI bg, zc_B xup, zc_N ix, zc_N ic, zc_N st, un, rp, dc, xv, zc_B xs, zc_N xo, xrs, xrr, xra, zc_O xp, zc_O xt, xss, sr, sa, zc_N en, zc_N xk, zc_N xl, zc_E xm, op, ol, ov) (nI n, nI sc, nI lm, nI sv, nI bg, nI rl, zc_N gp, zc_N gi, zc_N gx, gv, zc_E gq, zc_E gf, gr, ga, zc_N go, zc_B gs, zc_B gm, zc_B yp, zc_B yup, zc_N ix, zc_N ic, zc_N st, un, rp, dc, zc_N ch, zc_N en, zc_B kn, zc_B fl, zc_N to, zc_E sf, sr, sa, op, ol, ov)) (nI n, nI sc, nI lm, nI sv, nI bg, nI rl, zc_N gp, zc_N gi, zc_N gx, gv, zc_E gq, zc_E gf, gr, ga, zc_N go, zc_B gs, zc_B gm, zc_B yp, zc_B yup, zc_N ix, zc_N ic, zc_N st, un, rp, dc, zc_N ch, zc_N en, zc_B kn, zc_B fl, zc_N to, zc_E sf, sr, sa, op, ol, ov) v1 v2 v3) (nI n, nI sc, nI lm, nI sv, nI rl, nI bg, zc_B xup, zc_N ix, zc_N ic, zc_N st, un, rp, dc, xv, zc_B xs, zc_N xo, xrs, xrr, xra, zc_O xp, zc_O xt, xss, sr, sa, zc_N en, zc_N xk, zc_N xl, zc_E xm, op, ol, ov) v1 v2 v3 := by
  have R : i_Rel (k + 4) (nI n, nI sc, nI lm, nI sv, nI rl, nI bg, zc_B xup, zc_N ix, zc_N ic, zc_N st, un, rp, dc, xv, zc_B xs, zc_N xo, xrs, xrr, xra, zc_O xp, zc_O xt, xss, sr, sa, zc_N en, zc_N xk, zc_N xl, zc_E xm, op, ol, ov) (nI n, nI sc, nI lm, nI sv, nI bg, nI rl, zc_N gp, zc_N gi, zc_N gx, gv, zc_E gq, zc_E gf, gr, ga, zc_N go, zc_B gs, zc_B gm, zc_B yp, zc_B yup, zc_N ix, zc_N ic, zc_N st, un, rp, dc, zc_N ch, zc_N en, zc_B kn, zc_B fl, zc_N to, zc_E sf, sr, sa, op, ol, ov) := zr_mk F
  obtain ⟨hnum, hb1, hb2, hb3, hup, hk1, hk2, hG, hiv, hD, hcur, hch, hK, hv, hd, hsl, hm, hsm, hfr, hsv⟩ := F
  obtain ⟨hn, hsc, hlm, hsvn, hrl, hbg⟩ := hnum
  unfold wpX_interval wpY_interval wpX_onChain wpX_isProcess wpY_isProcess
  rcases pk_ix v1 (n := n) (by omega) with h | h | ⟨p, hp, rfl⟩
  · simp (disch := omega) only [zn_k4, zn_k8, zn_k16, zn_k32, zn_m16, zn_a64, zn_a128, nI_add, nI_1, nI_clamp, vp_in_nI, true_and, and_true, forall_eq, zn_rN, zn_rB, zn_rO, zn_rE, zn_vb0, zn_vb1, zn_b1, zn_b0, zn_d1, zn_d0, zn_e1, zn_e0, zn_wN, zn_wB1, zn_wB0, zn_wO, zn_wOd, zn_wO0, zn_wE, zn_wEe, zn_wE0, zn_leT, zn_leF, zn_ltT, zn_ltF, zn_eqF, zn_eqT, zn_lt0, zn_0le, zn_d2a, zn_d2b, zn_e1a, zn_e1b, zn_10, zn_00, zn_sh4, zn_an15, true_imp_iff, false_imp_iff, imp_true_iff, not_true_eq_false, not_false_eq_true, zn_gT4, zn_gF4, zn_gT8, zn_gF8, zn_gT12, zn_gF12, zn_gT48, zn_gF48, zn_gT124, zn_gF124, zn_gT128, zn_gF128, zn_gT560, zn_gF560, zn_lT7, zn_lF7, zn_lT120, zn_lF120, zn_qT7, zn_qF7, zn_qT120, zn_qF120, zn_qT0, zn_qF0, zn_qT1, zn_qF1, zn_hT0, zn_hF0, zn_hT7, zn_hF7, zn_sb, pk_us, zn_us, h]
    first | exact ⟨rfl, R⟩ | exact R
  · simp (disch := omega) only [zn_k4, zn_k8, zn_k16, zn_k32, zn_m16, zn_a64, zn_a128, nI_add, nI_1, nI_clamp, vp_in_nI, true_and, and_true, forall_eq, zn_rN, zn_rB, zn_rO, zn_rE, zn_vb0, zn_vb1, zn_b1, zn_b0, zn_d1, zn_d0, zn_e1, zn_e0, zn_wN, zn_wB1, zn_wB0, zn_wO, zn_wOd, zn_wO0, zn_wE, zn_wEe, zn_wE0, zn_leT, zn_leF, zn_ltT, zn_ltF, zn_eqF, zn_eqT, zn_lt0, zn_0le, zn_d2a, zn_d2b, zn_e1a, zn_e1b, zn_10, zn_00, zn_sh4, zn_an15, true_imp_iff, false_imp_iff, imp_true_iff, not_true_eq_false, not_false_eq_true, zn_gT4, zn_gF4, zn_gT8, zn_gF8, zn_gT12, zn_gF12, zn_gT48, zn_gF48, zn_gT124, zn_gF124, zn_gT128, zn_gF128, zn_gT560, zn_gF560, zn_lT7, zn_lF7, zn_lT120, zn_lF120, zn_qT7, zn_qF7, zn_qT120, zn_qF120, zn_qT0, zn_qF0, zn_qT1, zn_qF1, zn_hT0, zn_hF0, zn_hT7, zn_hF7, zn_sb, pk_us, zn_us, h, zr_nn h (by omega)]
    first | exact ⟨rfl, R⟩ | exact R
  · have hix := hb1.1 p
    rcases pk_ix v2 (n := ix p + 1) (by omega) with h | h | ⟨i, hi, rfl⟩
    · simp (disch := omega) only [zn_k4, zn_k8, zn_k16, zn_k32, zn_m16, zn_a64, zn_a128, nI_add, nI_1, nI_clamp, vp_in_nI, true_and, and_true, forall_eq, zn_rN, zn_rB, zn_rO, zn_rE, zn_vb0, zn_vb1, zn_b1, zn_b0, zn_d1, zn_d0, zn_e1, zn_e0, zn_wN, zn_wB1, zn_wB0, zn_wO, zn_wOd, zn_wO0, zn_wE, zn_wEe, zn_wE0, zn_leT, zn_leF, zn_ltT, zn_ltF, zn_eqF, zn_eqT, zn_lt0, zn_0le, zn_d2a, zn_d2b, zn_e1a, zn_e1b, zn_10, zn_00, zn_sh4, zn_an15, true_imp_iff, false_imp_iff, imp_true_iff, not_true_eq_false, not_false_eq_true, zn_gT4, zn_gF4, zn_gT8, zn_gF8, zn_gT12, zn_gF12, zn_gT48, zn_gF48, zn_gT124, zn_gF124, zn_gT128, zn_gF128, zn_gT560, zn_gF560, zn_lT7, zn_lF7, zn_lT120, zn_lF120, zn_qT7, zn_qF7, zn_qT120, zn_qF120, zn_qT0, zn_qF0, zn_qT1, zn_qF1, zn_hT0, zn_hF0, zn_hT7, zn_hF7, zn_sb, pk_us, zn_us, h]
      first | exact ⟨rfl, R⟩ | exact R
    · have h1 := zr_le (n := ix p + 1) (a := ix p) h (by omega) (by omega)
      have h2 : (nI (ix p) < v2) = True := eq_true (Int32.not_le.mp (fun z => by rw [h1] at z; exact z))
      simp (disch := omega) only [zn_k4, zn_k8, zn_k16, zn_k32, zn_m16, zn_a64, zn_a128, nI_add, nI_1, nI_clamp, vp_in_nI, true_and, and_true, forall_eq, zn_rN, zn_rB, zn_rO, zn_rE, zn_vb0, zn_vb1, zn_b1, zn_b0, zn_d1, zn_d0, zn_e1, zn_e0, zn_wN, zn_wB1, zn_wB0, zn_wO, zn_wOd, zn_wO0, zn_wE, zn_wEe, zn_wE0, zn_leT, zn_leF, zn_ltT, zn_ltF, zn_eqF, zn_eqT, zn_lt0, zn_0le, zn_d2a, zn_d2b, zn_e1a, zn_e1b, zn_10, zn_00, zn_sh4, zn_an15, true_imp_iff, false_imp_iff, imp_true_iff, not_true_eq_false, not_false_eq_true, zn_gT4, zn_gF4, zn_gT8, zn_gF8, zn_gT12, zn_gF12, zn_gT48, zn_gF48, zn_gT124, zn_gF124, zn_gT128, zn_gF128, zn_gT560, zn_gF560, zn_lT7, zn_lF7, zn_lT120, zn_lF120, zn_qT7, zn_qF7, zn_qT120, zn_qF120, zn_qT0, zn_qF0, zn_qT1, zn_qF1, zn_hT0, zn_hF0, zn_hT7, zn_hF7, zn_sb, pk_us, zn_us, h1, h2, zr_nn (n := ix p + 1) h (by omega)]
      first | exact ⟨rfl, R⟩ | exact R
    · have h0 := hch.1 p i hp (by omega)
      have hdd := hd p i hp (by omega)
      have hg := hG.2.1 _ h0.1
      have hu := hb3.2.2.2.2.1 (p * 16 + i)
      rcases pk_ix v3 (n := 7) (by omega) with h | h | ⟨c, hc, rfl⟩
      · have hne : ∀ a : Int32, 0 ≤ a → (v3 = a) = False := fun a ha => eq_false (fun z => by rw [z] at h; exact absurd (Int32.lt_of_le_of_lt ha h) Int32.lt_irrefl)
        simp (disch := omega) only [zn_k4, zn_k8, zn_k16, zn_k32, zn_m16, zn_a64, zn_a128, nI_add, nI_1, nI_clamp, vp_in_nI, true_and, and_true, forall_eq, zn_rN, zn_rB, zn_rO, zn_rE, zn_vb0, zn_vb1, zn_b1, zn_b0, zn_d1, zn_d0, zn_e1, zn_e0, zn_wN, zn_wB1, zn_wB0, zn_wO, zn_wOd, zn_wO0, zn_wE, zn_wEe, zn_wE0, zn_leT, zn_leF, zn_ltT, zn_ltF, zn_eqF, zn_eqT, zn_lt0, zn_0le, zn_d2a, zn_d2b, zn_e1a, zn_e1b, zn_10, zn_00, zn_sh4, zn_an15, true_imp_iff, false_imp_iff, imp_true_iff, not_true_eq_false, not_false_eq_true, zn_gT4, zn_gF4, zn_gT8, zn_gF8, zn_gT12, zn_gF12, zn_gT48, zn_gF48, zn_gT124, zn_gF124, zn_gT128, zn_gF128, zn_gT560, zn_gF560, zn_lT7, zn_lF7, zn_lT120, zn_lF120, zn_qT7, zn_qF7, zn_qT120, zn_qF120, zn_qT0, zn_qF0, zn_qT1, zn_qF1, zn_hT0, zn_hF0, zn_hT7, zn_hF7, zn_sb, pk_us, zn_us, h, hne 0 (by decide), hne 1 (by decide), hne 2 (by decide), hne 3 (by decide), hne 4 (by decide), hne 5 (by decide), hne 6 (by decide)]
        first | exact ⟨rfl, R⟩ | exact R
      · have h8 : (6 < v3) = True := eq_true (Int32.lt_of_lt_of_le (by decide : (6 : Int32) < nI 7) h)
        have hne : ∀ a : Int32, a < nI 7 → (v3 = a) = False := fun a ha => eq_false (fun z => by rw [z] at h; exact absurd (Int32.lt_of_le_of_lt h ha) Int32.lt_irrefl)
        simp (disch := omega) only [zn_k4, zn_k8, zn_k16, zn_k32, zn_m16, zn_a64, zn_a128, nI_add, nI_1, nI_clamp, vp_in_nI, true_and, and_true, forall_eq, zn_rN, zn_rB, zn_rO, zn_rE, zn_vb0, zn_vb1, zn_b1, zn_b0, zn_d1, zn_d0, zn_e1, zn_e0, zn_wN, zn_wB1, zn_wB0, zn_wO, zn_wOd, zn_wO0, zn_wE, zn_wEe, zn_wE0, zn_leT, zn_leF, zn_ltT, zn_ltF, zn_eqF, zn_eqT, zn_lt0, zn_0le, zn_d2a, zn_d2b, zn_e1a, zn_e1b, zn_10, zn_00, zn_sh4, zn_an15, true_imp_iff, false_imp_iff, imp_true_iff, not_true_eq_false, not_false_eq_true, zn_gT4, zn_gF4, zn_gT8, zn_gF8, zn_gT12, zn_gF12, zn_gT48, zn_gF48, zn_gT124, zn_gF124, zn_gT128, zn_gF128, zn_gT560, zn_gF560, zn_lT7, zn_lF7, zn_lT120, zn_lF120, zn_qT7, zn_qF7, zn_qT120, zn_qF120, zn_qT0, zn_qF0, zn_qT1, zn_qF1, zn_hT0, zn_hF0, zn_hT7, zn_hF7, zn_sb, pk_us, zn_us, h8, zr_nn (n := 7) h (by omega), hne 0 (by decide), hne 1 (by decide), hne 2 (by decide), hne 3 (by decide), hne 4 (by decide), hne 5 (by decide), hne 6 (by decide)]
        first | exact ⟨rfl, R⟩ | exact R
      · have h8 : (6 < nI c) = False := eq_false (nI_nlt (a := 6) (by omega) (by decide))
        match c, hc with
        | 0, _ =>
          simp (disch := omega) only [zn_k4, zn_k8, zn_k16, zn_k32, zn_m16, zn_a64, zn_a128, nI_add, nI_1, nI_clamp, vp_in_nI, true_and, and_true, forall_eq, zn_rN, zn_rB, zn_rO, zn_rE, zn_vb0, zn_vb1, zn_b1, zn_b0, zn_d1, zn_d0, zn_e1, zn_e0, zn_wN, zn_wB1, zn_wB0, zn_wO, zn_wOd, zn_wO0, zn_wE, zn_wEe, zn_wE0, zn_leT, zn_leF, zn_ltT, zn_ltF, zn_eqF, zn_eqT, zn_lt0, zn_0le, zn_d2a, zn_d2b, zn_e1a, zn_e1b, zn_10, zn_00, zn_sh4, zn_an15, true_imp_iff, false_imp_iff, imp_true_iff, not_true_eq_false, not_false_eq_true, zn_gT4, zn_gF4, zn_gT8, zn_gF8, zn_gT12, zn_gF12, zn_gT48, zn_gF48, zn_gT124, zn_gF124, zn_gT128, zn_gF128, zn_gT560, zn_gF560, zn_lT7, zn_lF7, zn_lT120, zn_lF120, zn_qT7, zn_qF7, zn_qT120, zn_qF120, zn_qT0, zn_qF0, zn_qT1, zn_qF1, zn_hT0, zn_hF0, zn_hT7, zn_hF7, zn_sb, pk_us, zn_us, h8, hdd.1]
          first | exact ⟨rfl, R⟩ | exact R
        | 1, _ =>
          have e1 := (hv p i p hp (by omega) (by omega)).1
          have e2 := hD.2.2.2 _ h0.1
          rw [h0.2.1] at e2
          simp (disch := omega) only [zn_k4, zn_k8, zn_k16, zn_k32, zn_m16, zn_a64, zn_a128, nI_add, nI_1, nI_clamp, vp_in_nI, true_and, and_true, forall_eq, zn_rN, zn_rB, zn_rO, zn_rE, zn_vb0, zn_vb1, zn_b1, zn_b0, zn_d1, zn_d0, zn_e1, zn_e0, zn_wN, zn_wB1, zn_wB0, zn_wO, zn_wOd, zn_wO0, zn_wE, zn_wEe, zn_wE0, zn_leT, zn_leF, zn_ltT, zn_ltF, zn_eqF, zn_eqT, zn_lt0, zn_0le, zn_d2a, zn_d2b, zn_e1a, zn_e1b, zn_10, zn_00, zn_sh4, zn_an15, true_imp_iff, false_imp_iff, imp_true_iff, not_true_eq_false, not_false_eq_true, zn_gT4, zn_gF4, zn_gT8, zn_gF8, zn_gT12, zn_gF12, zn_gT48, zn_gF48, zn_gT124, zn_gF124, zn_gT128, zn_gF128, zn_gT560, zn_gF560, zn_lT7, zn_lF7, zn_lT120, zn_lF120, zn_qT7, zn_qF7, zn_qT120, zn_qF120, zn_qT0, zn_qF0, zn_qT1, zn_qF1, zn_hT0, zn_hF0, zn_hT7, zn_hF7, zn_sb, pk_us, zn_us, h8, e1, e2]
          first | exact ⟨rfl, R⟩ | exact R
        | 2, _ =>
          cases hy : gs (ch (p * 16 + i)) with
          | false =>
            simp (disch := omega) only [zn_k4, zn_k8, zn_k16, zn_k32, zn_m16, zn_a64, zn_a128, nI_add, nI_1, nI_clamp, vp_in_nI, true_and, and_true, forall_eq, zn_rN, zn_rB, zn_rO, zn_rE, zn_vb0, zn_vb1, zn_b1, zn_b0, zn_d1, zn_d0, zn_e1, zn_e0, zn_wN, zn_wB1, zn_wB0, zn_wO, zn_wOd, zn_wO0, zn_wE, zn_wEe, zn_wE0, zn_leT, zn_leF, zn_ltT, zn_ltF, zn_eqF, zn_eqT, zn_lt0, zn_0le, zn_d2a, zn_d2b, zn_e1a, zn_e1b, zn_10, zn_00, zn_sh4, zn_an15, true_imp_iff, false_imp_iff, imp_true_iff, not_true_eq_false, not_false_eq_true, zn_gT4, zn_gF4, zn_gT8, zn_gF8, zn_gT12, zn_gF12, zn_gT48, zn_gF48, zn_gT124, zn_gF124, zn_gT128, zn_gF128, zn_gT560, zn_gF560, zn_lT7, zn_lF7, zn_lT120, zn_lF120, zn_qT7, zn_qF7, zn_qT120, zn_qF120, zn_qT0, zn_qF0, zn_qT1, zn_qF1, zn_hT0, zn_hF0, zn_hT7, zn_hF7, zn_sb, pk_us, zn_us, h8, zn_qT2, hdd.2.1, hy]
            first | exact ⟨rfl, R⟩ | exact R
          | true =>
            simp (disch := omega) only [zn_k4, zn_k8, zn_k16, zn_k32, zn_m16, zn_a64, zn_a128, nI_add, nI_1, nI_clamp, vp_in_nI, true_and, and_true, forall_eq, zn_rN, zn_rB, zn_rO, zn_rE, zn_vb0, zn_vb1, zn_b1, zn_b0, zn_d1, zn_d0, zn_e1, zn_e0, zn_wN, zn_wB1, zn_wB0, zn_wO, zn_wOd, zn_wO0, zn_wE, zn_wEe, zn_wE0, zn_leT, zn_leF, zn_ltT, zn_ltF, zn_eqF, zn_eqT, zn_lt0, zn_0le, zn_d2a, zn_d2b, zn_e1a, zn_e1b, zn_10, zn_00, zn_sh4, zn_an15, true_imp_iff, false_imp_iff, imp_true_iff, not_true_eq_false, not_false_eq_true, zn_gT4, zn_gF4, zn_gT8, zn_gF8, zn_gT12, zn_gF12, zn_gT48, zn_gF48, zn_gT124, zn_gF124, zn_gT128, zn_gF128, zn_gT560, zn_gF560, zn_lT7, zn_lF7, zn_lT120, zn_lF120, zn_qT7, zn_qF7, zn_qT120, zn_qF120, zn_qT0, zn_qF0, zn_qT1, zn_qF1, zn_hT0, zn_hF0, zn_hT7, zn_hF7, zn_sb, pk_us, zn_us, h8, zn_qT2, hdd.2.1, hy]
            first | exact ⟨rfl, R⟩ | exact R
        | 3, _ =>
          simp (disch := omega) only [zn_k4, zn_k8, zn_k16, zn_k32, zn_m16, zn_a64, zn_a128, nI_add, nI_1, nI_clamp, vp_in_nI, true_and, and_true, forall_eq, zn_rN, zn_rB, zn_rO, zn_rE, zn_vb0, zn_vb1, zn_b1, zn_b0, zn_d1, zn_d0, zn_e1, zn_e0, zn_wN, zn_wB1, zn_wB0, zn_wO, zn_wOd, zn_wO0, zn_wE, zn_wEe, zn_wE0, zn_leT, zn_leF, zn_ltT, zn_ltF, zn_eqF, zn_eqT, zn_lt0, zn_0le, zn_d2a, zn_d2b, zn_e1a, zn_e1b, zn_10, zn_00, zn_sh4, zn_an15, true_imp_iff, false_imp_iff, imp_true_iff, not_true_eq_false, not_false_eq_true, zn_gT4, zn_gF4, zn_gT8, zn_gF8, zn_gT12, zn_gF12, zn_gT48, zn_gF48, zn_gT124, zn_gF124, zn_gT128, zn_gF128, zn_gT560, zn_gF560, zn_lT7, zn_lF7, zn_lT120, zn_lF120, zn_qT7, zn_qF7, zn_qT120, zn_qF120, zn_qT0, zn_qF0, zn_qT1, zn_qF1, zn_hT0, zn_hF0, zn_hT7, zn_hF7, zn_sb, pk_us, zn_us, h8, zn_qF2, zn_qT3, hdd.2.2.1]
          first | exact ⟨rfl, R⟩ | exact R
        | 4, _ =>
          have e4 := hdd.2.2.2.2.2
          by_cases hi0 : i = 0
          · rw [if_pos hi0] at e4
            simp (disch := omega) only [zn_k4, zn_k8, zn_k16, zn_k32, zn_m16, zn_a64, zn_a128, nI_add, nI_1, nI_clamp, vp_in_nI, true_and, and_true, forall_eq, zn_rN, zn_rB, zn_rO, zn_rE, zn_vb0, zn_vb1, zn_b1, zn_b0, zn_d1, zn_d0, zn_e1, zn_e0, zn_wN, zn_wB1, zn_wB0, zn_wO, zn_wOd, zn_wO0, zn_wE, zn_wEe, zn_wE0, zn_leT, zn_leF, zn_ltT, zn_ltF, zn_eqF, zn_eqT, zn_lt0, zn_0le, zn_d2a, zn_d2b, zn_e1a, zn_e1b, zn_10, zn_00, zn_sh4, zn_an15, true_imp_iff, false_imp_iff, imp_true_iff, not_true_eq_false, not_false_eq_true, zn_gT4, zn_gF4, zn_gT8, zn_gF8, zn_gT12, zn_gF12, zn_gT48, zn_gF48, zn_gT124, zn_gF124, zn_gT128, zn_gF128, zn_gT560, zn_gF560, zn_lT7, zn_lF7, zn_lT120, zn_lF120, zn_qT7, zn_qF7, zn_qT120, zn_qF120, zn_qT0, zn_qF0, zn_qT1, zn_qF1, zn_hT0, zn_hF0, zn_hT7, zn_hF7, zn_sb, pk_us, zn_us, h8, zn_qF2, zn_qF3, zn_qT4, zn_qF5, zn_qF6, e4]
            first | exact ⟨rfl, R⟩ | exact R
          · rw [if_neg hi0] at e4
            cases hm0 : gf (ch (p * 16 + i)) with
            | zero =>
              rw [hm0] at e4
              simp (disch := omega) only [zn_k4, zn_k8, zn_k16, zn_k32, zn_m16, zn_a64, zn_a128, nI_add, nI_1, nI_clamp, vp_in_nI, true_and, and_true, forall_eq, zn_rN, zn_rB, zn_rO, zn_rE, zn_vb0, zn_vb1, zn_b1, zn_b0, zn_d1, zn_d0, zn_e1, zn_e0, zn_wN, zn_wB1, zn_wB0, zn_wO, zn_wOd, zn_wO0, zn_wE, zn_wEe, zn_wE0, zn_leT, zn_leF, zn_ltT, zn_ltF, zn_eqF, zn_eqT, zn_lt0, zn_0le, zn_d2a, zn_d2b, zn_e1a, zn_e1b, zn_10, zn_00, zn_sh4, zn_an15, true_imp_iff, false_imp_iff, imp_true_iff, not_true_eq_false, not_false_eq_true, zn_gT4, zn_gF4, zn_gT8, zn_gF8, zn_gT12, zn_gF12, zn_gT48, zn_gF48, zn_gT124, zn_gF124, zn_gT128, zn_gF128, zn_gT560, zn_gF560, zn_lT7, zn_lF7, zn_lT120, zn_lF120, zn_qT7, zn_qF7, zn_qT120, zn_qF120, zn_qT0, zn_qF0, zn_qT1, zn_qF1, zn_hT0, zn_hF0, zn_hT7, zn_hF7, zn_sb, pk_us, zn_us, h8, zn_qF2, zn_qF3, zn_qT4, zn_qF5, zn_qF6, e4, hm0]
              first | exact ⟨rfl, R⟩ | exact R
            | succ w =>
              rw [hm0] at e4
              simp (disch := omega) only [zn_k4, zn_k8, zn_k16, zn_k32, zn_m16, zn_a64, zn_a128, nI_add, nI_1, nI_clamp, vp_in_nI, true_and, and_true, forall_eq, zn_rN, zn_rB, zn_rO, zn_rE, zn_vb0, zn_vb1, zn_b1, zn_b0, zn_d1, zn_d0, zn_e1, zn_e0, zn_wN, zn_wB1, zn_wB0, zn_wO, zn_wOd, zn_wO0, zn_wE, zn_wEe, zn_wE0, zn_leT, zn_leF, zn_ltT, zn_ltF, zn_eqF, zn_eqT, zn_lt0, zn_0le, zn_d2a, zn_d2b, zn_e1a, zn_e1b, zn_10, zn_00, zn_sh4, zn_an15, true_imp_iff, false_imp_iff, imp_true_iff, not_true_eq_false, not_false_eq_true, zn_gT4, zn_gF4, zn_gT8, zn_gF8, zn_gT12, zn_gF12, zn_gT48, zn_gF48, zn_gT124, zn_gF124, zn_gT128, zn_gF128, zn_gT560, zn_gF560, zn_lT7, zn_lF7, zn_lT120, zn_lF120, zn_qT7, zn_qF7, zn_qT120, zn_qF120, zn_qT0, zn_qF0, zn_qT1, zn_qF1, zn_hT0, zn_hF0, zn_hT7, zn_hF7, zn_sb, pk_us, zn_us, h8, zn_qF2, zn_qF3, zn_qT4, zn_qF5, zn_qF6, e4, hm0]
              first | exact ⟨rfl, R⟩ | exact R
        | 5, _ =>
          simp (disch := omega) only [zn_k4, zn_k8, zn_k16, zn_k32, zn_m16, zn_a64, zn_a128, nI_add, nI_1, nI_clamp, vp_in_nI, true_and, and_true, forall_eq, zn_rN, zn_rB, zn_rO, zn_rE, zn_vb0, zn_vb1, zn_b1, zn_b0, zn_d1, zn_d0, zn_e1, zn_e0, zn_wN, zn_wB1, zn_wB0, zn_wO, zn_wOd, zn_wO0, zn_wE, zn_wEe, zn_wE0, zn_leT, zn_leF, zn_ltT, zn_ltF, zn_eqF, zn_eqT, zn_lt0, zn_0le, zn_d2a, zn_d2b, zn_e1a, zn_e1b, zn_10, zn_00, zn_sh4, zn_an15, true_imp_iff, false_imp_iff, imp_true_iff, not_true_eq_false, not_false_eq_true, zn_gT4, zn_gF4, zn_gT8, zn_gF8, zn_gT12, zn_gF12, zn_gT48, zn_gF48, zn_gT124, zn_gF124, zn_gT128, zn_gF128, zn_gT560, zn_gF560, zn_lT7, zn_lF7, zn_lT120, zn_lF120, zn_qT7, zn_qF7, zn_qT120, zn_qF120, zn_qT0, zn_qF0, zn_qT1, zn_qF1, zn_hT0, zn_hF0, zn_hT7, zn_hF7, zn_sb, pk_us, zn_us, h8, zn_qF2, zn_qF3, zn_qF4, zn_qT5, hdd.2.2.2.1]
          first | exact ⟨rfl, R⟩ | exact R
        | 6, _ =>
          simp (disch := omega) only [zn_k4, zn_k8, zn_k16, zn_k32, zn_m16, zn_a64, zn_a128, nI_add, nI_1, nI_clamp, vp_in_nI, true_and, and_true, forall_eq, zn_rN, zn_rB, zn_rO, zn_rE, zn_vb0, zn_vb1, zn_b1, zn_b0, zn_d1, zn_d0, zn_e1, zn_e0, zn_wN, zn_wB1, zn_wB0, zn_wO, zn_wOd, zn_wO0, zn_wE, zn_wEe, zn_wE0, zn_leT, zn_leF, zn_ltT, zn_ltF, zn_eqF, zn_eqT, zn_lt0, zn_0le, zn_d2a, zn_d2b, zn_e1a, zn_e1b, zn_10, zn_00, zn_sh4, zn_an15, true_imp_iff, false_imp_iff, imp_true_iff, not_true_eq_false, not_false_eq_true, zn_gT4, zn_gF4, zn_gT8, zn_gF8, zn_gT12, zn_gF12, zn_gT48, zn_gF48, zn_gT124, zn_gF124, zn_gT128, zn_gF128, zn_gT560, zn_gF560, zn_lT7, zn_lF7, zn_lT120, zn_lF120, zn_qT7, zn_qF7, zn_qT120, zn_qF120, zn_qT0, zn_qF0, zn_qT1, zn_qF1, zn_hT0, zn_hF0, zn_hT7, zn_hF7, zn_sb, pk_us, zn_us, h8, zn_qF2, zn_qF3, zn_qF4, zn_qF5, zn_qT6, hdd.2.2.2.2.1]
          first | exact ⟨rfl, R⟩ | exact R
end
end
section
/-! marks of the own process, saves: the relation -/
section
variable {n sc lm sv rl bg : Nat} {xup xs gs gm yp yup kn fl : Nat → Bool} {ix ic st xo xp xt en xk xl xm gp gi gx gq gf go ch to sf : Nat → Nat} {un rp dc xv xrs xrr xra xss sr sa op ol ov gv gr ga : Nat → Int32}
variable {P : Nat → Nat → Bool} {D : Nat → Nat → Nat} {k : Nat}
theorem zr_stabF {p l : Nat} (F : zr_F n sc lm sv rl bg ix ic st en xo xp xt xk xl xm gp gi gx go ch to gq gf sf xup yup kn fl xs gs gm gv gr ga xv xrs xrr xra xss P D) (hp : p < n) (h1 : st p ≤ l) (h2 : l ≤ ix p) : zr_F n sc lm sv rl bg ix ic (zc_u st p l) en xo xp xt xk xl xm gp gi gx go ch to gq gf sf xup yup kn fl xs gs (zm_mk gm ch p p (l + 1)) gv gr ga xv xrs xrr xra xss P D := by
  obtain ⟨hnum, hb1, hb2, hb3, hup, hk1, hk2, hG, hiv, hD, hcur, hch, hK, hv, hd, hsl, hm, hsm, hfr, hsv⟩ := F
  have hn4 := hnum.1.2
  have hgm : ∀ r u, r < n → gp u ≠ r → zm_mk gm ch p p (l + 1) (u * 4 + r) = gm (u * 4 + r) := by
    intro r u hr hg
    apply zr_bx
    rw [zm_mk_iff]
    refine ⟨fun h => h.elim id (fun ⟨i, hi, e⟩ => ?_), Or.inl⟩
    obtain ⟨e1, e2⟩ : u = ch (p * 16 + i) ∧ r = p := by omega
    have h0 := (hch.1 p i hp (by omega)).2.1
    rw [e1, e2, h0] at hg
    exact absurd rfl hg
  refine ⟨hnum, ⟨hb1.1, hb1.2.1, fun j => ?_, hb1.2.2.2⟩, hb2, hb3, hup, hk1, hk2, hG, hiv, hD, hcur, hch, hK, hv, hd, hsl, ⟨fun r u hr hu hg => ?_, fun r u w hr hu hw e1 e2 e3 e4 => ?_, hm.2.2⟩, fun q i hq hi => ?_, fun u hu => ?_, hsv⟩
  · by_cases h : j = p
    · subst h; rw [zn_us]; exact h2
    · rw [zn_un h]; exact hb1.2.2.1 j
  · rw [hgm r u hr hg]; exact hm.1 r u hr hu hg
  · rw [hgm r u hr e2] at e3
    rw [hgm r w hr (by rw [e1]; exact e2)]
    exact hm.2.1 r u w hr hu hw e1 e2 e3 e4
  · rw [zm_mk_iff, hsm q i hq hi]
    have h0 := hch.1 q i hq hi
    by_cases h : q = p
    · subst h
      rw [zn_us]
      constructor
      · rintro (h3 | ⟨i', hi', e⟩)
        · omega
        · have h4 := hch.1 q i' hq (by omega)
          have e2 : ch (q * 16 + i) = ch (q * 16 + i') := by omega
          rw [e2] at h0
          omega
      · intro h3
        exact Or.inr ⟨i, by omega, rfl⟩
    · rw [zn_un h]
      refine ⟨fun h3 => h3.elim id (fun ⟨i', hi', e⟩ => ?_), Or.inl⟩
      exact absurd (show q = p by omega) h
  · have h3 := hfr u hu
    refine ⟨h3.1, h3.2.1, fun r hr => ?_⟩
    cases hg : zm_mk gm ch p p (l + 1) (u * 4 + r) with
    | false => rfl
    | true =>
      rcases (zm_mk_iff _ _ _ _ _ _).mp hg with h4 | ⟨i, hi, e⟩
      · rw [h3.2.2 r hr] at h4; exact absurd h4 (by decide)
      · have h5 := (hch.1 p i hp (by omega)).1
        omega
theorem zr_saveF {p : Nat} (F : zr_F n sc lm sv rl bg ix ic st en xo xp xt xk xl xm gp gi gx go ch to gq gf sf xup yup kn fl xs gs gm gv gr ga xv xrs xrr xra xss P D) (hp : p < n) (h0 : xs (p * 16 + ix p) = false) (hlt : zf_cnt (fun j => xs (p * 16 + j)) (ix p) 1 < sv) : zr_F n sc lm sv rl bg ix ic st en xo xp xt xk xl xm gp gi gx go ch to gq gf sf xup yup kn fl (zc_u xs (p * 16 + ix p) true) (zc_u gs (ch (p * 16 + ix p)) true) gm gv gr ga xv xrs xrr xra xss P D := by
  obtain ⟨hnum, hb1, hb2, hb3, hup, hk1, hk2, hG, hiv, hD, hcur, hch, hK, hv, hd, hsl, hm, hsm, hfr, hsv⟩ := F
  have hix12 : ∀ j, ix j ≤ 12 := fun j => Nat.le_trans (hb1.1 j) hnum.2.2.1.2
  have hc := hch.1 p (ix p) hp (Nat.le_refl _)
  refine ⟨hnum, hb1, hb2, hb3, hup, hk1, hk2, hG, hiv, hD, hcur, hch, hK, hv, fun q j hq hj => ?_, hsl, hm, hsm, fun u hu => ?_, fun q hq => ?_⟩
  · have h1 := hd q j hq hj
    refine ⟨h1.1, ?_, h1.2.2⟩
    have h2 := hch.1 q j hq hj
    by_cases h : q = p ∧ j = ix p
    · obtain ⟨rfl, rfl⟩ := h
      rw [zn_us, zn_us]
    · have h3 := hix12 q
      have h4 := hix12 p
      rw [zn_un (by omega), zn_un ?_]
      · exact h1.2.1
      · intro h5
        rw [h5] at h2
        exact h ⟨by rw [← h2.2.1, hc.2.1], by rw [← h2.2.2.1, hc.2.2.1]⟩
  · have h1 := hfr u hu
    rw [zn_un (by omega)]
    exact h1
  · have h3 := hix12 q
    have h4 := hix12 p
    by_cases h : q = p
    · subst h
      cases hi : ix q with
      | zero => exact Nat.zero_le _
      | succ d =>
        rw [hi] at hlt
        rw [zf_cnt_add, zf_cnt_one, zf_cnt_cg (q' := fun j => xs (q * 16 + j)) d 1 (fun j h5 h6 => zn_un (by omega))]
        have h7 := zf_cnt_mono (fun j => xs (q * 16 + j)) (show d ≤ d + 1 by omega) 1
        split <;> omega
    · rw [zf_cnt_cg (q' := fun j => xs (q * 16 + j)) _ _ (fun j h5 h6 => zn_un (by omega))]
      exact hsv q hq
theorem zt_drop {v1 : Int32} (F : zr_F n sc lm sv rl bg ix ic st en xo xp xt xk xl xm gp gi gx go ch to gq gf sf xup yup kn fl xs gs gm gv gr ga xv xrs xrr xra xss P D) : wpX_drop (fun r u' => wpY_drop (fun r' v' => r' = r ∧ i_Rel (k + 4) u' v') (nI n, nI sc, nI lm, nI sv, nI bg, nI rl, zc_N gp, zc_N gi, zc_N gx, gv, zc_E gq, zc_E gf, gr, ga, zc_N go, zc_B gs, zc_B gm, zc_B yp, zc_B yup, zc_N ix, zc_N ic, zc_N st, un, rp, dc, zc_N ch, zc_N en, zc_B kn, zc_B fl, zc_N to, zc_E sf, sr, sa, op, ol, ov) v1) (nI n, nI sc, nI lm, nI sv, nI rl, nI bg, zc_B xup, zc_N ix, zc_N ic, zc_N st, un, rp, dc, xv, zc_B xs, zc_N xo, xrs, xrr, xra, zc_O xp, zc_O xt, xss, sr, sa, zc_N en, zc_N xk, zc_N xl, zc_E xm, op, ol, ov) v1 := by
  have R : i_Rel (k + 4) (nI n, nI sc, nI lm, nI sv, nI rl, nI bg, zc_B xup, zc_N ix, zc_N ic, zc_N st, un, rp, dc, xv, zc_B xs, zc_N xo, xrs, xrr, xra, zc_O xp, zc_O xt, xss, sr, sa, zc_N en, zc_N xk, zc_N xl, zc_E xm, op, ol, ov) (nI n, nI sc, nI lm, nI sv, nI bg, nI rl, zc_N gp, zc_N gi, zc_N gx, gv, zc_E gq, zc_E gf, gr, ga, zc_N go, zc_B gs, zc_B gm, zc_B yp, zc_B yup, zc_N ix, zc_N ic, zc_N st, un, rp, dc, zc_N ch, zc_N en, zc_B kn, zc_B fl, zc_N to, zc_E sf, sr, sa, op, ol, ov) := zr_mk F
  have F0 := F
  obtain ⟨hnum, hb1, hb2, hb3, hup, hk1, hk2, hG, hiv, hD, hcur, hch, hK, hv, hd, hsl, hm, hsm, hfr, hsv⟩ := F
  obtain ⟨hn, hsc, hlm, hsvn, hrl, hbg⟩ := hnum
  unfold wpX_drop wpY_drop wpX_isSlot
  rcases pk_ix v1 (n := sc) (by omega) with h | h | ⟨s, hs, rfl⟩
  · simp (disch := omega) only [zn_k4, zn_k8, zn_k16, zn_k32, zn_m16, zn_a64, zn_a128, nI_add, nI_1, nI_clamp, vp_in_nI, true_and, and_true, forall_eq, zn_rN, zn_rB, zn_rO, zn_rE, zn_vb0, zn_vb1, zn_b1, zn_b0, zn_d1, zn_d0, zn_e1, zn_e0, zn_wN, zn_wB1, zn_wB0, zn_wO, zn_wOd, zn_wO0, zn_wE, zn_wEe, zn_wE0, zn_leT, zn_leF, zn_ltT, zn_ltF, zn_eqF, zn_eqT, zn_lt0, zn_0le, zn_d2a, zn_d2b, zn_e1a, zn_e1b, zn_10, zn_00, zn_sh4, zn_an15, true_imp_iff, false_imp_iff, imp_true_iff, not_true_eq_false, not_false_eq_true, zn_gT4, zn_gF4, zn_gT8, zn_gF8, zn_gT12, zn_gF12, zn_gT48, zn_gF48, zn_gT124, zn_gF124, zn_gT128, zn_gF128, zn_gT560, zn_gF560, zn_lT7, zn_lF7, zn_lT120, zn_lF120, zn_qT7, zn_qF7, zn_qT120, zn_qF120, zn_qT0, zn_qF0, zn_qT1, zn_qF1, zn_hT0, zn_hF0, zn_hT7, zn_hF7, zn_sb, pk_us, zn_us, h]
    first | exact ⟨rfl, R⟩ | exact R
  · have h2 : (v1 < nI sc) = False := eq_false (fun z => absurd (Int32.lt_of_le_of_lt h z) Int32.lt_irrefl)
    simp (disch := omega) only [zn_k4, zn_k8, zn_k16, zn_k32, zn_m16, zn_a64, zn_a128, nI_add, nI_1, nI_clamp, vp_in_nI, true_and, and_true, forall_eq, zn_rN, zn_rB, zn_rO, zn_rE, zn_vb0, zn_vb1, zn_b1, zn_b0, zn_d1, zn_d0, zn_e1, zn_e0, zn_wN, zn_wB1, zn_wB0, zn_wO, zn_wOd, zn_wO0, zn_wE, zn_wEe, zn_wE0, zn_leT, zn_leF, zn_ltT, zn_ltF, zn_eqF, zn_eqT, zn_lt0, zn_0le, zn_d2a, zn_d2b, zn_e1a, zn_e1b, zn_10, zn_00, zn_sh4, zn_an15, true_imp_iff, false_imp_iff, imp_true_iff, not_true_eq_false, not_false_eq_true, zn_gT4, zn_gF4, zn_gT8, zn_gF8, zn_gT12, zn_gF12, zn_gT48, zn_gF48, zn_gT124, zn_gF124, zn_gT128, zn_gF128, zn_gT560, zn_gF560, zn_lT7, zn_lF7, zn_lT120, zn_lF120, zn_qT7, zn_qF7, zn_qT120, zn_qF120, zn_qT0, zn_qF0, zn_qT1, zn_qF1, zn_hT0, zn_hF0, zn_hT7, zn_hF7, zn_sb, pk_us, zn_us, h, h2, zr_nn h (by omega)]
    first | exact ⟨rfl, R⟩ | exact R
  · have hx := hb2.2.2.1 s
    have h0 := hsl s hs
    by_cases hq : xt s = 0
    · have hf : fl s = false := by rw [h0.1, decide_eq_false (fun z => z hq)]
      simp (disch := omega) only [zn_k4, zn_k8, zn_k16, zn_k32, zn_m16, zn_a64, zn_a128, nI_add, nI_1, nI_clamp, vp_in_nI, true_and, and_true, forall_eq, zn_rN, zn_rB, zn_rO, zn_rE, zn_vb0, zn_vb1, zn_b1, zn_b0, zn_d1, zn_d0, zn_e1, zn_e0, zn_wN, zn_wB1, zn_wB0, zn_wO, zn_wOd, zn_wO0, zn_wE, zn_wEe, zn_wE0, zn_leT, zn_leF, zn_ltT, zn_ltF, zn_eqF, zn_eqT, zn_lt0, zn_0le, zn_d2a, zn_d2b, zn_e1a, zn_e1b, zn_10, zn_00, zn_sh4, zn_an15, true_imp_iff, false_imp_iff, imp_true_iff, not_true_eq_false, not_false_eq_true, zn_gT4, zn_gF4, zn_gT8, zn_gF8, zn_gT12, zn_gF12, zn_gT48, zn_gF48, zn_gT124, zn_gF124, zn_gT128, zn_gF128, zn_gT560, zn_gF560, zn_lT7, zn_lF7, zn_lT120, zn_lF120, zn_qT7, zn_qF7, zn_qT120, zn_qF120, zn_qT0, zn_qF0, zn_qT1, zn_qF1, zn_hT0, zn_hF0, zn_hT7, zn_hF7, zn_sb, pk_us, zn_us, hq, hf]
      first | exact ⟨rfl, R⟩ | exact R
    · have hf : fl s = true := by rw [h0.1, decide_eq_true hq]
      have e1 : xt s = to s + 1 := (h0.2 hq).1
      simp (disch := omega) only [zn_k4, zn_k8, zn_k16, zn_k32, zn_m16, zn_a64, zn_a128, nI_add, nI_1, nI_clamp, vp_in_nI, true_and, and_true, forall_eq, zn_rN, zn_rB, zn_rO, zn_rE, zn_vb0, zn_vb1, zn_b1, zn_b0, zn_d1, zn_d0, zn_e1, zn_e0, zn_wN, zn_wB1, zn_wB0, zn_wO, zn_wOd, zn_wO0, zn_wE, zn_wEe, zn_wE0, zn_leT, zn_leF, zn_ltT, zn_ltF, zn_eqF, zn_eqT, zn_lt0, zn_0le, zn_d2a, zn_d2b, zn_e1a, zn_e1b, zn_10, zn_00, zn_sh4, zn_an15, true_imp_iff, false_imp_iff, imp_true_iff, not_true_eq_false, not_false_eq_true, zn_gT4, zn_gF4, zn_gT8, zn_gF8, zn_gT12, zn_gF12, zn_gT48, zn_gF48, zn_gT124, zn_gF124, zn_gT128, zn_gF128, zn_gT560, zn_gF560, zn_lT7, zn_lF7, zn_lT120, zn_lF120, zn_qT7, zn_qF7, zn_qT120, zn_qF120, zn_qT0, zn_qF0, zn_qT1, zn_qF1, zn_hT0, zn_hF0, zn_hT7, zn_hF7, zn_sb, pk_us, zn_us, hf, e1]
      first | exact ⟨rfl, zr_mk (zr_emptyF (s := s) F0)⟩ | exact zr_mk (zr_emptyF (s := s) F0)
theorem zt_inject {v1 v2 v3 : Int32} (F : zr_F n sc lm sv rl bg ix ic st en xo xp xt xk xl xm gp gi gx go ch to gq gf sf xup yup kn fl xs gs gm gv gr ga xv xrs xrr xra xss P D) : wpX_inject (fun r u' => wpY_inject (fun r' v' => r' = r ∧ i_Rel (k + 4) u' v') (nI n, nI sc, nI lm, nI sv, nI bg, nI rl, zc_N gp, zc_N gi, zc_N gx, gv, zc_E gq, zc_E gf, gr, ga, zc_N go, zc_B gs, zc_B gm, zc_B yp, zc_B yup, zc_N ix, zc_N ic, zc_N st, un, rp, dc, zc_N ch, zc_N en, zc_B kn, zc_B fl, zc_N to, zc_E sf, sr, sa, op, ol, ov) v1 v2 v3) (nI n, nI sc, nI lm, nI sv, nI rl, nI bg, zc_B xup, zc_N ix, zc_N ic, zc_N st, un, rp, dc, xv, zc_B xs, zc_N xo, xrs, xrr, xra, zc_O xp, zc_O xt, xss, sr, sa, zc_N en, zc_N xk, zc_N xl, zc_E xm, op, ol, ov) v1 v2 v3 := by
  have R : i_Rel (k + 4) (nI n, nI sc, nI lm, nI sv, nI rl, nI bg, zc_B xup, zc_N ix, zc_N ic, zc_N st, un, rp, dc, xv, zc_B xs, zc_N xo, xrs, xrr, xra, zc_O xp, zc_O xt, xss, sr, sa, zc_N en, zc_N xk, zc_N xl, zc_E xm, op, ol, ov) (nI n, nI sc, nI lm, nI sv, nI bg, nI rl, zc_N gp, zc_N gi, zc_N gx, gv, zc_E gq, zc_E gf, gr, ga, zc_N go, zc_B gs, zc_B gm, zc_B yp, zc_B yup, zc_N ix, zc_N ic, zc_N st, un, rp, dc, zc_N ch, zc_N en, zc_B kn, zc_B fl, zc_N to, zc_E sf, sr, sa, op, ol, ov) := zr_mk F
  have F0 := F
  obtain ⟨hnum, hb1, hb2, hb3, hup, hk1, hk2, hG, hiv, hD, hcur, hch, hK, hv, hd, hsl, hm, hsm, hfr, hsv⟩ := F
  obtain ⟨hn, hsc, hlm, hsvn, hrl, hbg⟩ := hnum
  have hff := zr_ffF hsl
  unfold wpX_inject wpY_inject wpX_isProcess wpY_isProcess
  rcases pk_ix v1 (n := n) (by omega) with h | h | ⟨t, ht, rfl⟩
  · simp (disch := omega) only [zn_k4, zn_k8, zn_k16, zn_k32, zn_m16, zn_a64, zn_a128, nI_add, nI_1, nI_clamp, vp_in_nI, true_and, and_true, forall_eq, zn_rN, zn_rB, zn_rO, zn_rE, zn_vb0, zn_vb1, zn_b1, zn_b0, zn_d1, zn_d0, zn_e1, zn_e0, zn_wN, zn_wB1, zn_wB0, zn_wO, zn_wOd, zn_wO0, zn_wE, zn_wEe, zn_wE0, zn_leT, zn_leF, zn_ltT, zn_ltF, zn_eqF, zn_eqT, zn_lt0, zn_0le, zn_d2a, zn_d2b, zn_e1a, zn_e1b, zn_10, zn_00, zn_sh4, zn_an15, true_imp_iff, false_imp_iff, imp_true_iff, not_true_eq_false, not_false_eq_true, zn_gT4, zn_gF4, zn_gT8, zn_gF8, zn_gT12, zn_gF12, zn_gT48, zn_gF48, zn_gT124, zn_gF124, zn_gT128, zn_gF128, zn_gT560, zn_gF560, zn_lT7, zn_lF7, zn_lT120, zn_lF120, zn_qT7, zn_qF7, zn_qT120, zn_qF120, zn_qT0, zn_qF0, zn_qT1, zn_qF1, zn_hT0, zn_hF0, zn_hT7, zn_hF7, zn_sb, pk_us, zn_us, h]
    first | exact ⟨rfl, R⟩ | exact R
  · simp (disch := omega) only [zn_k4, zn_k8, zn_k16, zn_k32, zn_m16, zn_a64, zn_a128, nI_add, nI_1, nI_clamp, vp_in_nI, true_and, and_true, forall_eq, zn_rN, zn_rB, zn_rO, zn_rE, zn_vb0, zn_vb1, zn_b1, zn_b0, zn_d1, zn_d0, zn_e1, zn_e0, zn_wN, zn_wB1, zn_wB0, zn_wO, zn_wOd, zn_wO0, zn_wE, zn_wEe, zn_wE0, zn_leT, zn_leF, zn_ltT, zn_ltF, zn_eqF, zn_eqT, zn_lt0, zn_0le, zn_d2a, zn_d2b, zn_e1a, zn_e1b, zn_10, zn_00, zn_sh4, zn_an15, true_imp_iff, false_imp_iff, imp_true_iff, not_true_eq_false, not_false_eq_true, zn_gT4, zn_gF4, zn_gT8, zn_gF8, zn_gT12, zn_gF12, zn_gT48, zn_gF48, zn_gT124, zn_gF124, zn_gT128, zn_gF128, zn_gT560, zn_gF560, zn_lT7, zn_lF7, zn_lT120, zn_lF120, zn_qT7, zn_qF7, zn_qT120, zn_qF120, zn_qT0, zn_qF0, zn_qT1, zn_qF1, zn_hT0, zn_hF0, zn_hT7, zn_hF7, zn_sb, pk_us, zn_us, h, zr_nn h (by omega)]
    first | exact ⟨rfl, R⟩ | exact R
  · simp (disch := omega) only [zn_k4, zn_k8, zn_k16, zn_k32, zn_m16, zn_a64, zn_a128, nI_add, nI_1, nI_clamp, vp_in_nI, true_and, and_true, forall_eq, zn_rN, zn_rB, zn_rO, zn_rE, zn_vb0, zn_vb1, zn_b1, zn_b0, zn_d1, zn_d0, zn_e1, zn_e0, zn_wN, zn_wB1, zn_wB0, zn_wO, zn_wOd, zn_wO0, zn_wE, zn_wEe, zn_wE0, zn_leT, zn_leF, zn_ltT, zn_ltF, zn_eqF, zn_eqT, zn_lt0, zn_0le, zn_d2a, zn_d2b, zn_e1a, zn_e1b, zn_10, zn_00, zn_sh4, zn_an15, true_imp_iff, false_imp_iff, imp_true_iff, not_true_eq_false, not_false_eq_true, zn_gT4, zn_gF4, zn_gT8, zn_gF8, zn_gT12, zn_gF12, zn_gT48, zn_gF48, zn_gT124, zn_gF124, zn_gT128, zn_gF128, zn_gT560, zn_gF560, zn_lT7, zn_lF7, zn_lT120, zn_lF120, zn_qT7, zn_qF7, zn_qT120, zn_qF120, zn_qT0, zn_qF0, zn_qT1, zn_qF1, zn_hT0, zn_hF0, zn_hT7, zn_hF7, zn_sb, pk_us, zn_us]
    refine zx_place hsc.2 hb2.2.2.1 (fun h => ?_) (fun s hs hlt => ?_)
    · refine br_f (by decide) ?_
      refine zy_put (m := 0) hsc.2 (fun _ => ⟨rfl, R⟩) (fun s hs hlt => ?_)
      rw [hff] at h
      omega
    · simp (disch := omega) only [zn_k4, zn_k8, zn_k16, zn_k32, zn_m16, zn_a64, zn_a128, nI_add, nI_1, nI_clamp, vp_in_nI, true_and, and_true, forall_eq, zn_rN, zn_rB, zn_rO, zn_rE, zn_vb0, zn_vb1, zn_b1, zn_b0, zn_d1, zn_d0, zn_e1, zn_e0, zn_wN, zn_wB1, zn_wB0, zn_wO, zn_wOd, zn_wO0, zn_wE, zn_wEe, zn_wE0, zn_leT, zn_leF, zn_ltT, zn_ltF, zn_eqF, zn_eqT, zn_lt0, zn_0le, zn_d2a, zn_d2b, zn_e1a, zn_e1b, zn_10, zn_00, zn_sh4, zn_an15, true_imp_iff, false_imp_iff, imp_true_iff, not_true_eq_false, not_false_eq_true, zn_gT4, zn_gF4, zn_gT8, zn_gF8, zn_gT12, zn_gF12, zn_gT48, zn_gF48, zn_gT124, zn_gF124, zn_gT128, zn_gF128, zn_gT560, zn_gF560, zn_lT7, zn_lF7, zn_lT120, zn_lF120, zn_qT7, zn_qF7, zn_qT120, zn_qF120, zn_qT0, zn_qF0, zn_qT1, zn_qF1, zn_hT0, zn_hF0, zn_hT7, zn_hF7, zn_sb, pk_us, zn_us]
      refine zx_clear (by omega) ?_
      dsimp only
      refine zy_put (m := 0) hsc.2 (fun h => ?_) (fun s' hs' hlt' => ?_)
      · rw [hff] at hs
        omega
      · obtain rfl : s' = s := by rw [hs, hs', hff]
        refine ⟨rfl, zr_mk (zr_putF (m := 0) F0 ht (by omega) hlt (zv_cl_b hb2.2.1 _ _) (fun x hx => ?_) (fun c x hx hc => zv_cl_o _ hx hc))⟩
        rw [zv_cl_i _ _ _ hx, hD.1 x]
theorem zt_log {v1 v2 : Int32} (F : zr_F n sc lm sv rl bg ix ic st en xo xp xt xk xl xm gp gi gx go ch to gq gf sf xup yup kn fl xs gs gm gv gr ga xv xrs xrr xra xss P D) : wpX_log (fun r u' => wpY_log (fun r' v' => r' = r ∧ i_Rel (k + 4) u' v') (nI n, nI sc, nI lm, nI sv, nI bg, nI rl, zc_N gp, zc_N gi, zc_N gx, gv, zc_E gq, zc_E gf, gr, ga, zc_N go, zc_B gs, zc_B gm, zc_B yp, zc_B yup, zc_N ix, zc_N ic, zc_N st, un, rp, dc, zc_N ch, zc_N en, zc_B kn, zc_B fl, zc_N to, zc_E sf, sr, sa, op, ol, ov) v1 v2) (nI n, nI sc, nI lm, nI sv, nI rl, nI bg, zc_B xup, zc_N ix, zc_N ic, zc_N st, un, rp, dc, xv, zc_B xs, zc_N xo, xrs, xrr, xra, zc_O xp, zc_O xt, xss, sr, sa, zc_N en, zc_N xk, zc_N xl, zc_E xm, op, ol, ov) v1 v2 := by
  have R : i_Rel (k + 4) (nI n, nI sc, nI lm, nI sv, nI rl, nI bg, zc_B xup, zc_N ix, zc_N ic, zc_N st, un, rp, dc, xv, zc_B xs, zc_N xo, xrs, xrr, xra, zc_O xp, zc_O xt, xss, sr, sa, zc_N en, zc_N xk, zc_N xl, zc_E xm, op, ol, ov) (nI n, nI sc, nI lm, nI sv, nI bg, nI rl, zc_N gp, zc_N gi, zc_N gx, gv, zc_E gq, zc_E gf, gr, ga, zc_N go, zc_B gs, zc_B gm, zc_B yp, zc_B yup, zc_N ix, zc_N ic, zc_N st, un, rp, dc, zc_N ch, zc_N en, zc_B kn, zc_B fl, zc_N to, zc_E sf, sr, sa, op, ol, ov) := zr_mk F
  have F0 := F
  obtain ⟨hnum, hb1, hb2, hb3, hup, hk1, hk2, hG, hiv, hD, hcur, hch, hK, hv, hd, hsl, hm, hsm, hfr, hsv⟩ := F
  obtain ⟨hn, hsc, hlm, hsvn, hrl, hbg⟩ := hnum
  unfold wpX_log wpY_log wpX_isProcess wpY_isProcess
  rcases pk_ix v1 (n := n) (by omega) with h | h | ⟨p, hp, rfl⟩
  · simp (disch := omega) only [zn_k4, zn_k8, zn_k16, zn_k32, zn_m16, zn_a64, zn_a128, nI_add, nI_1, nI_clamp, vp_in_nI, true_and, and_true, forall_eq, zn_rN, zn_rB, zn_rO, zn_rE, zn_vb0, zn_vb1, zn_b1, zn_b0, zn_d1, zn_d0, zn_e1, zn_e0, zn_wN, zn_wB1, zn_wB0, zn_wO, zn_wOd, zn_wO0, zn_wE, zn_wEe, zn_wE0, zn_leT, zn_leF, zn_ltT, zn_ltF, zn_eqF, zn_eqT, zn_lt0, zn_0le, zn_d2a, zn_d2b, zn_e1a, zn_e1b, zn_10, zn_00, zn_sh4, zn_an15, true_imp_iff, false_imp_iff, imp_true_iff, not_true_eq_false, not_false_eq_true, zn_gT4, zn_gF4, zn_gT8, zn_gF8, zn_gT12, zn_gF12, zn_gT48, zn_gF48, zn_gT124, zn_gF124, zn_gT128, zn_gF128, zn_gT560, zn_gF560, zn_lT7, zn_lF7, zn_lT120, zn_lF120, zn_qT7, zn_qF7, zn_qT120, zn_qF120, zn_qT0, zn_qF0, zn_qT1, zn_qF1, zn_hT0, zn_hF0, zn_hT7, zn_hF7, zn_sb, pk_us, zn_us, h]
    first | exact ⟨rfl, R⟩ | exact R
  · simp (disch := omega) only [zn_k4, zn_k8, zn_k16, zn_k32, zn_m16, zn_a64, zn_a128, nI_add, nI_1, nI_clamp, vp_in_nI, true_and, and_true, forall_eq, zn_rN, zn_rB, zn_rO, zn_rE, zn_vb0, zn_vb1, zn_b1, zn_b0, zn_d1, zn_d0, zn_e1, zn_e0, zn_wN, zn_wB1, zn_wB0, zn_wO, zn_wOd, zn_wO0, zn_wE, zn_wEe, zn_wE0, zn_leT, zn_leF, zn_ltT, zn_ltF, zn_eqF, zn_eqT, zn_lt0, zn_0le, zn_d2a, zn_d2b, zn_e1a, zn_e1b, zn_10, zn_00, zn_sh4, zn_an15, true_imp_iff, false_imp_iff, imp_true_iff, not_true_eq_false, not_false_eq_true, zn_gT4, zn_gF4, zn_gT8, zn_gF8, zn_gT12, zn_gF12, zn_gT48, zn_gF48, zn_gT124, zn_gF124, zn_gT128, zn_gF128, zn_gT560, zn_gF560, zn_lT7, zn_lF7, zn_lT120, zn_lF120, zn_qT7, zn_qF7, zn_qT120, zn_qF120, zn_qT0, zn_qF0, zn_qT1, zn_qF1, zn_hT0, zn_hF0, zn_hT7, zn_hF7, zn_sb, pk_us, zn_us, h, zr_nn h (by omega)]
    first | exact ⟨rfl, R⟩ | exact R
  · have hu := (hup p hp).1
    have h1 := hb1.2.2.1 p
    have h2 := hb1.1 p
    cases hy : yup p with
    | false =>
      rw [hy] at hu
      simp (disch := omega) only [zn_k4, zn_k8, zn_k16, zn_k32, zn_m16, zn_a64, zn_a128, nI_add, nI_1, nI_clamp, vp_in_nI, true_and, and_true, forall_eq, zn_rN, zn_rB, zn_rO, zn_rE, zn_vb0, zn_vb1, zn_b1, zn_b0, zn_d1, zn_d0, zn_e1, zn_e0, zn_wN, zn_wB1, zn_wB0, zn_wO, zn_wOd, zn_wO0, zn_wE, zn_wEe, zn_wE0, zn_leT, zn_leF, zn_ltT, zn_ltF, zn_eqF, zn_eqT, zn_lt0, zn_0le, zn_d2a, zn_d2b, zn_e1a, zn_e1b, zn_10, zn_00, zn_sh4, zn_an15, true_imp_iff, false_imp_iff, imp_true_iff, not_true_eq_false, not_false_eq_true, zn_gT4, zn_gF4, zn_gT8, zn_gF8, zn_gT12, zn_gF12, zn_gT48, zn_gF48, zn_gT124, zn_gF124, zn_gT128, zn_gF128, zn_gT560, zn_gF560, zn_lT7, zn_lF7, zn_lT120, zn_lF120, zn_qT7, zn_qF7, zn_qT120, zn_qF120, zn_qT0, zn_qF0, zn_qT1, zn_qF1, zn_hT0, zn_hF0, zn_hT7, zn_hF7, zn_sb, pk_us, zn_us, hu, hy]
      first | exact ⟨rfl, R⟩ | exact R
    | true =>
      rw [hy] at hu
      have hc := zf_cl_in (v := v2) (lo := 0) (hi := ix p - st p) (by omega) (by omega)
      simp (disch := omega) only [zn_k4, zn_k8, zn_k16, zn_k32, zn_m16, zn_a64, zn_a128, nI_add, nI_1, nI_clamp, vp_in_nI, true_and, and_true, forall_eq, zn_rN, zn_rB, zn_rO, zn_rE, zn_vb0, zn_vb1, zn_b1, zn_b0, zn_d1, zn_d0, zn_e1, zn_e0, zn_wN, zn_wB1, zn_wB0, zn_wO, zn_wOd, zn_wO0, zn_wE, zn_wEe, zn_wE0, zn_leT, zn_leF, zn_ltT, zn_ltF, zn_eqF, zn_eqT, zn_lt0, zn_0le, zn_d2a, zn_d2b, zn_e1a, zn_e1b, zn_10, zn_00, zn_sh4, zn_an15, true_imp_iff, false_imp_iff, imp_true_iff, not_true_eq_false, not_false_eq_true, zn_gT4, zn_gF4, zn_gT8, zn_gF8, zn_gT12, zn_gF12, zn_gT48, zn_gF48, zn_gT124, zn_gF124, zn_gT128, zn_gF128, zn_gT560, zn_gF560, zn_lT7, zn_lF7, zn_lT120, zn_lF120, zn_qT7, zn_qF7, zn_qT120, zn_qF120, zn_qT0, zn_qF0, zn_qT1, zn_qF1, zn_hT0, zn_hF0, zn_hT7, zn_hF7, zn_sb, pk_us, zn_us, hu, hy]
      refine zx_clamp (lo := 0) (by omega) (by omega) ?_
      simp (disch := omega) only [zn_k4, zn_k8, zn_k16, zn_k32, zn_m16, zn_a64, zn_a128, nI_add, nI_1, nI_clamp, vp_in_nI, true_and, and_true, forall_eq, zn_rN, zn_rB, zn_rO, zn_rE, zn_vb0, zn_vb1, zn_b1, zn_b0, zn_d1, zn_d0, zn_e1, zn_e0, zn_wN, zn_wB1, zn_wB0, zn_wO, zn_wOd, zn_wO0, zn_wE, zn_wEe, zn_wE0, zn_leT, zn_leF, zn_ltT, zn_ltF, zn_eqF, zn_eqT, zn_lt0, zn_0le, zn_d2a, zn_d2b, zn_e1a, zn_e1b, zn_10, zn_00, zn_sh4, zn_an15, true_imp_iff, false_imp_iff, imp_true_iff, not_true_eq_false, not_false_eq_true, zn_gT4, zn_gF4, zn_gT8, zn_gF8, zn_gT12, zn_gF12, zn_gT48, zn_gF48, zn_gT124, zn_gF124, zn_gT128, zn_gF128, zn_gT560, zn_gF560, zn_lT7, zn_lF7, zn_lT120, zn_lF120, zn_qT7, zn_qF7, zn_qT120, zn_qF120, zn_qT0, zn_qF0, zn_qT1, zn_qF1, zn_hT0, zn_hF0, zn_hT7, zn_hF7, zn_sb, pk_us, zn_us]
      refine zy_clamp (lo := 0) (by omega) (by omega) ?_
      simp (disch := omega) only [zn_k4, zn_k8, zn_k16, zn_k32, zn_m16, zn_a64, zn_a128, nI_add, nI_1, nI_clamp, vp_in_nI, true_and, and_true, forall_eq, zn_rN, zn_rB, zn_rO, zn_rE, zn_vb0, zn_vb1, zn_b1, zn_b0, zn_d1, zn_d0, zn_e1, zn_e0, zn_wN, zn_wB1, zn_wB0, zn_wO, zn_wOd, zn_wO0, zn_wE, zn_wEe, zn_wE0, zn_leT, zn_leF, zn_ltT, zn_ltF, zn_eqF, zn_eqT, zn_lt0, zn_0le, zn_d2a, zn_d2b, zn_e1a, zn_e1b, zn_10, zn_00, zn_sh4, zn_an15, true_imp_iff, false_imp_iff, imp_true_iff, not_true_eq_false, not_false_eq_true, zn_gT4, zn_gF4, zn_gT8, zn_gF8, zn_gT12, zn_gF12, zn_gT48, zn_gF48, zn_gT124, zn_gF124, zn_gT128, zn_gF128, zn_gT560, zn_gF560, zn_lT7, zn_lF7, zn_lT120, zn_lF120, zn_qT7, zn_qF7, zn_qT120, zn_qF120, zn_qT0, zn_qF0, zn_qT1, zn_qF1, zn_hT0, zn_hF0, zn_hT7, zn_hF7, zn_sb, pk_us, zn_us]
      refine zy_stab (by omega) (by omega) hb3.2.2.2.2.1 ?_
      have F1 := zr_stabF F0 hp (show st p ≤ st p + zf_cl v2 0 (ix p - st p) by omega) (show st p + zf_cl v2 0 (ix p - st p) ≤ ix p by omega)
      first | exact ⟨rfl, zr_mk F1⟩ | exact zr_mk F1
theorem zt_checkpoint {v1 : Int32} (F : zr_F n sc lm sv rl bg ix ic st en xo xp xt xk xl xm gp gi gx go ch to gq gf sf xup yup kn fl xs gs gm gv gr ga xv xrs xrr xra xss P D) : wpX_checkpoint (fun r u' => wpY_checkpoint (fun r' v' => r' = r ∧ i_Rel (k + 4) u' v') (nI n, nI sc, nI lm, nI sv, nI bg, nI rl, zc_N gp, zc_N gi, zc_N gx, gv, zc_E gq, zc_E gf, gr, ga, zc_N go, zc_B gs, zc_B gm, zc_B yp, zc_B yup, zc_N ix, zc_N ic, zc_N st, un, rp, dc, zc_N ch, zc_N en, zc_B kn, zc_B fl, zc_N to, zc_E sf, sr, sa, op, ol, ov) v1) (nI n, nI sc, nI lm, nI sv, nI rl, nI bg, zc_B xup, zc_N ix, zc_N ic, zc_N st, un, rp, dc, xv, zc_B xs, zc_N xo, xrs, xrr, xra, zc_O xp, zc_O xt, xss, sr, sa, zc_N en, zc_N xk, zc_N xl, zc_E xm, op, ol, ov) v1 := by
  have R : i_Rel (k + 4) (nI n, nI sc, nI lm, nI sv, nI rl, nI bg, zc_B xup, zc_N ix, zc_N ic, zc_N st, un, rp, dc, xv, zc_B xs, zc_N xo, xrs, xrr, xra, zc_O xp, zc_O xt, xss, sr, sa, zc_N en, zc_N xk, zc_N xl, zc_E xm, op, ol, ov) (nI n, nI sc, nI lm, nI sv, nI bg, nI rl, zc_N gp, zc_N gi, zc_N gx, gv, zc_E gq, zc_E gf, gr, ga, zc_N go, zc_B gs, zc_B gm, zc_B yp, zc_B yup, zc_N ix, zc_N ic, zc_N st, un, rp, dc, zc_N ch, zc_N en, zc_B kn, zc_B fl, zc_N to, zc_E sf, sr, sa, op, ol, ov) := zr_mk F
  have F0 := F
  obtain ⟨hnum, hb1, hb2, hb3, hup, hk1, hk2, hG, hiv, hD, hcur, hch, hK, hv, hd, hsl, hm, hsm, hfr, hsv⟩ := F
  obtain ⟨hn, hsc, hlm, hsvn, hrl, hbg⟩ := hnum
  have hix12 : ∀ j, ix j ≤ 12 := fun j => Nat.le_trans (hb1.1 j) hlm.2
  unfold wpX_checkpoint wpY_checkpoint wpX_isProcess wpY_isProcess
  rcases pk_ix v1 (n := n) (by omega) with h | h | ⟨p, hp, rfl⟩
  · simp (disch := omega) only [zn_k4, zn_k8, zn_k16, zn_k32, zn_m16, zn_a64, zn_a128, nI_add, nI_1, nI_clamp, vp_in_nI, true_and, and_true, forall_eq, zn_rN, zn_rB, zn_rO, zn_rE, zn_vb0, zn_vb1, zn_b1, zn_b0, zn_d1, zn_d0, zn_e1, zn_e0, zn_wN, zn_wB1, zn_wB0, zn_wO, zn_wOd, zn_wO0, zn_wE, zn_wEe, zn_wE0, zn_leT, zn_leF, zn_ltT, zn_ltF, zn_eqF, zn_eqT, zn_lt0, zn_0le, zn_d2a, zn_d2b, zn_e1a, zn_e1b, zn_10, zn_00, zn_sh4, zn_an15, true_imp_iff, false_imp_iff, imp_true_iff, not_true_eq_false, not_false_eq_true, zn_gT4, zn_gF4, zn_gT8, zn_gF8, zn_gT12, zn_gF12, zn_gT48, zn_gF48, zn_gT124, zn_gF124, zn_gT128, zn_gF128, zn_gT560, zn_gF560, zn_lT7, zn_lF7, zn_lT120, zn_lF120, zn_qT7, zn_qF7, zn_qT120, zn_qF120, zn_qT0, zn_qF0, zn_qT1, zn_qF1, zn_hT0, zn_hF0, zn_hT7, zn_hF7, zn_sb, pk_us, zn_us, h]
    first | exact ⟨rfl, R⟩ | exact R
  · simp (disch := omega) only [zn_k4, zn_k8, zn_k16, zn_k32, zn_m16, zn_a64, zn_a128, nI_add, nI_1, nI_clamp, vp_in_nI, true_and, and_true, forall_eq, zn_rN, zn_rB, zn_rO, zn_rE, zn_vb0, zn_vb1, zn_b1, zn_b0, zn_d1, zn_d0, zn_e1, zn_e0, zn_wN, zn_wB1, zn_wB0, zn_wO, zn_wOd, zn_wO0, zn_wE, zn_wEe, zn_wE0, zn_leT, zn_leF, zn_ltT, zn_ltF, zn_eqF, zn_eqT, zn_lt0, zn_0le, zn_d2a, zn_d2b, zn_e1a, zn_e1b, zn_10, zn_00, zn_sh4, zn_an15, true_imp_iff, false_imp_iff, imp_true_iff, not_true_eq_false, not_false_eq_true, zn_gT4, zn_gF4, zn_gT8, zn_gF8, zn_gT12, zn_gF12, zn_gT48, zn_gF48, zn_gT124, zn_gF124, zn_gT128, zn_gF128, zn_gT560, zn_gF560, zn_lT7, zn_lF7, zn_lT120, zn_lF120, zn_qT7, zn_qF7, zn_qT120, zn_qF120, zn_qT0, zn_qF0, zn_qT1, zn_qF1, zn_hT0, zn_hF0, zn_hT7, zn_hF7, zn_sb, pk_us, zn_us, h, zr_nn h (by omega)]
    first | exact ⟨rfl, R⟩ | exact R
  · have hu := (hup p hp).1
    have h1 := hb1.2.2.1 p
    have h2 := hix12 p
    have hc := hb3.2.2.2.2.1 (p * 16 + ix p)
    cases hy : yup p with
    | false =>
      rw [hy] at hu
      simp (disch := omega) only [zn_k4, zn_k8, zn_k16, zn_k32, zn_m16, zn_a64, zn_a128, nI_add, nI_1, nI_clamp, vp_in_nI, true_and, and_true, forall_eq, zn_rN, zn_rB, zn_rO, zn_rE, zn_vb0, zn_vb1, zn_b1, zn_b0, zn_d1, zn_d0, zn_e1, zn_e0, zn_wN, zn_wB1, zn_wB0, zn_wO, zn_wOd, zn_wO0, zn_wE, zn_wEe, zn_wE0, zn_leT, zn_leF, zn_ltT, zn_ltF, zn_eqF, zn_eqT, zn_lt0, zn_0le, zn_d2a, zn_d2b, zn_e1a, zn_e1b, zn_10, zn_00, zn_sh4, zn_an15, true_imp_iff, false_imp_iff, imp_true_iff, not_true_eq_false, not_false_eq_true, zn_gT4, zn_gF4, zn_gT8, zn_gF8, zn_gT12, zn_gF12, zn_gT48, zn_gF48, zn_gT124, zn_gF124, zn_gT128, zn_gF128, zn_gT560, zn_gF560, zn_lT7, zn_lF7, zn_lT120, zn_lF120, zn_qT7, zn_qF7, zn_qT120, zn_qF120, zn_qT0, zn_qF0, zn_qT1, zn_qF1, zn_hT0, zn_hF0, zn_hT7, zn_hF7, zn_sb, pk_us, zn_us, hu, hy]
      first | exact ⟨rfl, R⟩ | exact R
    | true =>
      rw [hy] at hu
      have hs := (hd p (ix p) hp (Nat.le_refl _)).2.1
      cases hg : gs (ch (p * 16 + ix p)) with
      | true =>
        rw [hg] at hs
        simp (disch := omega) only [zn_k4, zn_k8, zn_k16, zn_k32, zn_m16, zn_a64, zn_a128, nI_add, nI_1, nI_clamp, vp_in_nI, true_and, and_true, forall_eq, zn_rN, zn_rB, zn_rO, zn_rE, zn_vb0, zn_vb1, zn_b1, zn_b0, zn_d1, zn_d0, zn_e1, zn_e0, zn_wN, zn_wB1, zn_wB0, zn_wO, zn_wOd, zn_wO0, zn_wE, zn_wEe, zn_wE0, zn_leT, zn_leF, zn_ltT, zn_ltF, zn_eqF, zn_eqT, zn_lt0, zn_0le, zn_d2a, zn_d2b, zn_e1a, zn_e1b, zn_10, zn_00, zn_sh4, zn_an15, true_imp_iff, false_imp_iff, imp_true_iff, not_true_eq_false, not_false_eq_true, zn_gT4, zn_gF4, zn_gT8, zn_gF8, zn_gT12, zn_gF12, zn_gT48, zn_gF48, zn_gT124, zn_gF124, zn_gT128, zn_gF128, zn_gT560, zn_gF560, zn_lT7, zn_lF7, zn_lT120, zn_lF120, zn_qT7, zn_qF7, zn_qT120, zn_qF120, zn_qT0, zn_qF0, zn_qT1, zn_qF1, zn_hT0, zn_hF0, zn_hT7, zn_hF7, zn_sb, pk_us, zn_us, hu, hy, hs, hg]
        first | exact ⟨rfl, R⟩ | exact R
      | false =>
        rw [hg] at hs
        have hsc2 := hsv p hp
        have he : zf_cnt (fun j => gs (ch (p * 16 + j))) (ix p) 1 = zf_cnt (fun j => xs (p * 16 + j)) (ix p) 1 := zf_cnt_cg _ _ (fun j h3 h4 => (hd p j hp (by omega)).2.1.symm)
        simp (disch := omega) only [zn_k4, zn_k8, zn_k16, zn_k32, zn_m16, zn_a64, zn_a128, nI_add, nI_1, nI_clamp, vp_in_nI, true_and, and_true, forall_eq, zn_rN, zn_rB, zn_rO, zn_rE, zn_vb0, zn_vb1, zn_b1, zn_b0, zn_d1, zn_d0, zn_e1, zn_e0, zn_wN, zn_wB1, zn_wB0, zn_wO, zn_wOd, zn_wO0, zn_wE, zn_wEe, zn_wE0, zn_leT, zn_leF, zn_ltT, zn_ltF, zn_eqF, zn_eqT, zn_lt0, zn_0le, zn_d2a, zn_d2b, zn_e1a, zn_e1b, zn_10, zn_00, zn_sh4, zn_an15, true_imp_iff, false_imp_iff, imp_true_iff, not_true_eq_false, not_false_eq_true, zn_gT4, zn_gF4, zn_gT8, zn_gF8, zn_gT12, zn_gF12, zn_gT48, zn_gF48, zn_gT124, zn_gF124, zn_gT128, zn_gF128, zn_gT560, zn_gF560, zn_lT7, zn_lF7, zn_lT120, zn_lF120, zn_qT7, zn_qF7, zn_qT120, zn_qF120, zn_qT0, zn_qF0, zn_qT1, zn_qF1, zn_hT0, zn_hF0, zn_hT7, zn_hF7, zn_sb, pk_us, zn_us, hu, hy, hs, hg]
        refine zx_saves (by omega) hix12 ?_
        by_cases hlt : zf_cnt (fun j => xs (p * 16 + j)) (ix p) 1 < sv
        · simp (disch := omega) only [zn_k4, zn_k8, zn_k16, zn_k32, zn_m16, zn_a64, zn_a128, nI_add, nI_1, nI_clamp, vp_in_nI, true_and, and_true, forall_eq, zn_rN, zn_rB, zn_rO, zn_rE, zn_vb0, zn_vb1, zn_b1, zn_b0, zn_d1, zn_d0, zn_e1, zn_e0, zn_wN, zn_wB1, zn_wB0, zn_wO, zn_wOd, zn_wO0, zn_wE, zn_wEe, zn_wE0, zn_leT, zn_leF, zn_ltT, zn_ltF, zn_eqF, zn_eqT, zn_lt0, zn_0le, zn_d2a, zn_d2b, zn_e1a, zn_e1b, zn_10, zn_00, zn_sh4, zn_an15, true_imp_iff, false_imp_iff, imp_true_iff, not_true_eq_false, not_false_eq_true, zn_gT4, zn_gF4, zn_gT8, zn_gF8, zn_gT12, zn_gF12, zn_gT48, zn_gF48, zn_gT124, zn_gF124, zn_gT128, zn_gF128, zn_gT560, zn_gF560, zn_lT7, zn_lF7, zn_lT120, zn_lF120, zn_qT7, zn_qF7, zn_qT120, zn_qF120, zn_qT0, zn_qF0, zn_qT1, zn_qF1, zn_hT0, zn_hF0, zn_hT7, zn_hF7, zn_sb, pk_us, zn_us]
          refine zy_saves (by omega) hix12 hb3.2.2.2.2.1 ?_
          rw [he]
          simp (disch := omega) only [zn_k4, zn_k8, zn_k16, zn_k32, zn_m16, zn_a64, zn_a128, nI_add, nI_1, nI_clamp, vp_in_nI, true_and, and_true, forall_eq, zn_rN, zn_rB, zn_rO, zn_rE, zn_vb0, zn_vb1, zn_b1, zn_b0, zn_d1, zn_d0, zn_e1, zn_e0, zn_wN, zn_wB1, zn_wB0, zn_wO, zn_wOd, zn_wO0, zn_wE, zn_wEe, zn_wE0, zn_leT, zn_leF, zn_ltT, zn_ltF, zn_eqF, zn_eqT, zn_lt0, zn_0le, zn_d2a, zn_d2b, zn_e1a, zn_e1b, zn_10, zn_00, zn_sh4, zn_an15, true_imp_iff, false_imp_iff, imp_true_iff, not_true_eq_false, not_false_eq_true, zn_gT4, zn_gF4, zn_gT8, zn_gF8, zn_gT12, zn_gF12, zn_gT48, zn_gF48, zn_gT124, zn_gF124, zn_gT128, zn_gF128, zn_gT560, zn_gF560, zn_lT7, zn_lF7, zn_lT120, zn_lF120, zn_qT7, zn_qF7, zn_qT120, zn_qF120, zn_qT0, zn_qF0, zn_qT1, zn_qF1, zn_hT0, zn_hF0, zn_hT7, zn_hF7, zn_sb, pk_us, zn_us]
          refine zy_stab (by omega) (by omega) hb3.2.2.2.2.1 ?_
          simp (disch := omega) only [zn_k4, zn_k8, zn_k16, zn_k32, zn_m16, zn_a64, zn_a128, nI_add, nI_1, nI_clamp, vp_in_nI, true_and, and_true, forall_eq, zn_rN, zn_rB, zn_rO, zn_rE, zn_vb0, zn_vb1, zn_b1, zn_b0, zn_d1, zn_d0, zn_e1, zn_e0, zn_wN, zn_wB1, zn_wB0, zn_wO, zn_wOd, zn_wO0, zn_wE, zn_wEe, zn_wE0, zn_leT, zn_leF, zn_ltT, zn_ltF, zn_eqF, zn_eqT, zn_lt0, zn_0le, zn_d2a, zn_d2b, zn_e1a, zn_e1b, zn_10, zn_00, zn_sh4, zn_an15, true_imp_iff, false_imp_iff, imp_true_iff, not_true_eq_false, not_false_eq_true, zn_gT4, zn_gF4, zn_gT8, zn_gF8, zn_gT12, zn_gF12, zn_gT48, zn_gF48, zn_gT124, zn_gF124, zn_gT128, zn_gF128, zn_gT560, zn_gF560, zn_lT7, zn_lF7, zn_lT120, zn_lF120, zn_qT7, zn_qF7, zn_qT120, zn_qF120, zn_qT0, zn_qF0, zn_qT1, zn_qF1, zn_hT0, zn_hF0, zn_hT7, zn_hF7, zn_sb, pk_us, zn_us]
          first | exact ⟨rfl, zr_mk (zr_saveF (zr_stabF F0 hp h1 (Nat.le_refl _)) hp hs hlt)⟩ | exact zr_mk (zr_saveF (zr_stabF F0 hp h1 (Nat.le_refl _)) hp hs hlt)
        · simp (disch := omega) only [zn_k4, zn_k8, zn_k16, zn_k32, zn_m16, zn_a64, zn_a128, nI_add, nI_1, nI_clamp, vp_in_nI, true_and, and_true, forall_eq, zn_rN, zn_rB, zn_rO, zn_rE, zn_vb0, zn_vb1, zn_b1, zn_b0, zn_d1, zn_d0, zn_e1, zn_e0, zn_wN, zn_wB1, zn_wB0, zn_wO, zn_wOd, zn_wO0, zn_wE, zn_wEe, zn_wE0, zn_leT, zn_leF, zn_ltT, zn_ltF, zn_eqF, zn_eqT, zn_lt0, zn_0le, zn_d2a, zn_d2b, zn_e1a, zn_e1b, zn_10, zn_00, zn_sh4, zn_an15, true_imp_iff, false_imp_iff, imp_true_iff, not_true_eq_false, not_false_eq_true, zn_gT4, zn_gF4, zn_gT8, zn_gF8, zn_gT12, zn_gF12, zn_gT48, zn_gF48, zn_gT124, zn_gF124, zn_gT128, zn_gF128, zn_gT560, zn_gF560, zn_lT7, zn_lF7, zn_lT120, zn_lF120, zn_qT7, zn_qF7, zn_qT120, zn_qF120, zn_qT0, zn_qF0, zn_qT1, zn_qF1, zn_hT0, zn_hF0, zn_hT7, zn_hF7, zn_sb, pk_us, zn_us]
          refine zy_saves (by omega) hix12 hb3.2.2.2.2.1 ?_
          rw [he]
          simp (disch := omega) only [zn_k4, zn_k8, zn_k16, zn_k32, zn_m16, zn_a64, zn_a128, nI_add, nI_1, nI_clamp, vp_in_nI, true_and, and_true, forall_eq, zn_rN, zn_rB, zn_rO, zn_rE, zn_vb0, zn_vb1, zn_b1, zn_b0, zn_d1, zn_d0, zn_e1, zn_e0, zn_wN, zn_wB1, zn_wB0, zn_wO, zn_wOd, zn_wO0, zn_wE, zn_wEe, zn_wE0, zn_leT, zn_leF, zn_ltT, zn_ltF, zn_eqF, zn_eqT, zn_lt0, zn_0le, zn_d2a, zn_d2b, zn_e1a, zn_e1b, zn_10, zn_00, zn_sh4, zn_an15, true_imp_iff, false_imp_iff, imp_true_iff, not_true_eq_false, not_false_eq_true, zn_gT4, zn_gF4, zn_gT8, zn_gF8, zn_gT12, zn_gF12, zn_gT48, zn_gF48, zn_gT124, zn_gF124, zn_gT128, zn_gF128, zn_gT560, zn_gF560, zn_lT7, zn_lF7, zn_lT120, zn_lF120, zn_qT7, zn_qF7, zn_qT120, zn_qF120, zn_qT0, zn_qF0, zn_qT1, zn_qF1, zn_hT0, zn_hF0, zn_hT7, zn_hF7, zn_sb, pk_us, zn_us]
          first | exact ⟨rfl, R⟩ | exact R
theorem zt_crash {v1 : Int32} (F : zr_F n sc lm sv rl bg ix ic st en xo xp xt xk xl xm gp gi gx go ch to gq gf sf xup yup kn fl xs gs gm gv gr ga xv xrs xrr xra xss P D) : wpX_crash (fun r u' => wpY_crash (fun r' v' => r' = r ∧ i_Rel (k + 4) u' v') (nI n, nI sc, nI lm, nI sv, nI bg, nI rl, zc_N gp, zc_N gi, zc_N gx, gv, zc_E gq, zc_E gf, gr, ga, zc_N go, zc_B gs, zc_B gm, zc_B yp, zc_B yup, zc_N ix, zc_N ic, zc_N st, un, rp, dc, zc_N ch, zc_N en, zc_B kn, zc_B fl, zc_N to, zc_E sf, sr, sa, op, ol, ov) v1) (nI n, nI sc, nI lm, nI sv, nI rl, nI bg, zc_B xup, zc_N ix, zc_N ic, zc_N st, un, rp, dc, xv, zc_B xs, zc_N xo, xrs, xrr, xra, zc_O xp, zc_O xt, xss, sr, sa, zc_N en, zc_N xk, zc_N xl, zc_E xm, op, ol, ov) v1 := by
  have R : i_Rel (k + 4) (nI n, nI sc, nI lm, nI sv, nI rl, nI bg, zc_B xup, zc_N ix, zc_N ic, zc_N st, un, rp, dc, xv, zc_B xs, zc_N xo, xrs, xrr, xra, zc_O xp, zc_O xt, xss, sr, sa, zc_N en, zc_N xk, zc_N xl, zc_E xm, op, ol, ov) (nI n, nI sc, nI lm, nI sv, nI bg, nI rl, zc_N gp, zc_N gi, zc_N gx, gv, zc_E gq, zc_E gf, gr, ga, zc_N go, zc_B gs, zc_B gm, zc_B yp, zc_B yup, zc_N ix, zc_N ic, zc_N st, un, rp, dc, zc_N ch, zc_N en, zc_B kn, zc_B fl, zc_N to, zc_E sf, sr, sa, op, ol, ov) := zr_mk F
  have F0 := F
  obtain ⟨hnum, hb1, hb2, hb3, hup, hk1, hk2, hG, hiv, hD, hcur, hch, hK, hv, hd, hsl, hm, hsm, hfr, hsv⟩ := F
  obtain ⟨hn, hsc, hlm, hsvn, hrl, hbg⟩ := hnum
  have hix12 : ∀ j, ix j ≤ 12 := fun j => Nat.le_trans (hb1.1 j) hlm.2
  unfold wpX_crash wpY_crash wpX_isProcess wpY_isProcess
  rcases pk_ix v1 (n := n) (by omega) with h | h | ⟨p, hp, rfl⟩
  · simp (disch := omega) only [zn_k4, zn_k8, zn_k16, zn_k32, zn_m16, zn_a64, zn_a128, nI_add, nI_1, nI_clamp, vp_in_nI, true_and, and_true, forall_eq, zn_rN, zn_rB, zn_rO, zn_rE, zn_vb0, zn_vb1, zn_b1, zn_b0, zn_d1, zn_d0, zn_e1, zn_e0, zn_wN, zn_wB1, zn_wB0, zn_wO, zn_wOd, zn_wO0, zn_wE, zn_wEe, zn_wE0, zn_leT, zn_leF, zn_ltT, zn_ltF, zn_eqF, zn_eqT, zn_lt0, zn_0le, zn_d2a, zn_d2b, zn_e1a, zn_e1b, zn_10, zn_00, zn_sh4, zn_an15, true_imp_iff, false_imp_iff, imp_true_iff, not_true_eq_false, not_false_eq_true, zn_gT4, zn_gF4, zn_gT8, zn_gF8, zn_gT12, zn_gF12, zn_gT48, zn_gF48, zn_gT124, zn_gF124, zn_gT128, zn_gF128, zn_gT560, zn_gF560, zn_lT7, zn_lF7, zn_lT120, zn_lF120, zn_qT7, zn_qF7, zn_qT120, zn_qF120, zn_qT0, zn_qF0, zn_qT1, zn_qF1, zn_hT0, zn_hF0, zn_hT7, zn_hF7, zn_sb, pk_us, zn_us, h]
    first | exact ⟨rfl, R⟩ | exact R
  · simp (disch := omega) only [zn_k4, zn_k8, zn_k16, zn_k32, zn_m16, zn_a64, zn_a128, nI_add, nI_1, nI_clamp, vp_in_nI, true_and, and_true, forall_eq, zn_rN, zn_rB, zn_rO, zn_rE, zn_vb0, zn_vb1, zn_b1, zn_b0, zn_d1, zn_d0, zn_e1, zn_e0, zn_wN, zn_wB1, zn_wB0, zn_wO, zn_wOd, zn_wO0, zn_wE, zn_wEe, zn_wE0, zn_leT, zn_leF, zn_ltT, zn_ltF, zn_eqF, zn_eqT, zn_lt0, zn_0le, zn_d2a, zn_d2b, zn_e1a, zn_e1b, zn_10, zn_00, zn_sh4, zn_an15, true_imp_iff, false_imp_iff, imp_true_iff, not_true_eq_false, not_false_eq_true, zn_gT4, zn_gF4, zn_gT8, zn_gF8, zn_gT12, zn_gF12, zn_gT48, zn_gF48, zn_gT124, zn_gF124, zn_gT128, zn_gF128, zn_gT560, zn_gF560, zn_lT7, zn_lF7, zn_lT120, zn_lF120, zn_qT7, zn_qF7, zn_qT120, zn_qF120, zn_qT0, zn_qF0, zn_qT1, zn_qF1, zn_hT0, zn_hF0, zn_hT7, zn_hF7, zn_sb, pk_us, zn_us, h, zr_nn h (by omega)]
    first | exact ⟨rfl, R⟩ | exact R
  · have hu := (hup p hp).1
    have h1 := hb1.2.2.1 p
    have h2 := hix12 p
    have h3 := hb1.2.1 p
    cases hy : yup p with
    | false =>
      rw [hy] at hu
      simp (disch := omega) only [zn_k4, zn_k8, zn_k16, zn_k32, zn_m16, zn_a64, zn_a128, nI_add, nI_1, nI_clamp, vp_in_nI, true_and, and_true, forall_eq, zn_rN, zn_rB, zn_rO, zn_rE, zn_vb0, zn_vb1, zn_b1, zn_b0, zn_d1, zn_d0, zn_e1, zn_e0, zn_wN, zn_wB1, zn_wB0, zn_wO, zn_wOd, zn_wO0, zn_wE, zn_wEe, zn_wE0, zn_leT, zn_leF, zn_ltT, zn_ltF, zn_eqF, zn_eqT, zn_lt0, zn_0le, zn_d2a, zn_d2b, zn_e1a, zn_e1b, zn_10, zn_00, zn_sh4, zn_an15, true_imp_iff, false_imp_iff, imp_true_iff, not_true_eq_false, not_false_eq_true, zn_gT4, zn_gF4, zn_gT8, zn_gF8, zn_gT12, zn_gF12, zn_gT48, zn_gF48, zn_gT124, zn_gF124, zn_gT128, zn_gF128, zn_gT560, zn_gF560, zn_lT7, zn_lF7, zn_lT120, zn_lF120, zn_qT7, zn_qF7, zn_qT120, zn_qF120, zn_qT0, zn_qF0, zn_qT1, zn_qF1, zn_hT0, zn_hF0, zn_hT7, zn_hF7, zn_sb, pk_us, zn_us, hu, hy]
      first | exact ⟨rfl, R⟩ | exact R
    | true =>
      rw [hy] at hu
      by_cases h7 : ic p < 7
      · have F1 := zr_cutF F0 hp h1 h7
        rw [if_pos (Nat.le_refl _)] at F1
        simp (disch := omega) only [zn_k4, zn_k8, zn_k16, zn_k32, zn_m16, zn_a64, zn_a128, nI_add, nI_1, nI_clamp, vp_in_nI, true_and, and_true, forall_eq, zn_rN, zn_rB, zn_rO, zn_rE, zn_vb0, zn_vb1, zn_b1, zn_b0, zn_d1, zn_d0, zn_e1, zn_e0, zn_wN, zn_wB1, zn_wB0, zn_wO, zn_wOd, zn_wO0, zn_wE, zn_wEe, zn_wE0, zn_leT, zn_leF, zn_ltT, zn_ltF, zn_eqF, zn_eqT, zn_lt0, zn_0le, zn_d2a, zn_d2b, zn_e1a, zn_e1b, zn_10, zn_00, zn_sh4, zn_an15, true_imp_iff, false_imp_iff, imp_true_iff, not_true_eq_false, not_false_eq_true, zn_gT4, zn_gF4, zn_gT8, zn_gF8, zn_gT12, zn_gF12, zn_gT48, zn_gF48, zn_gT124, zn_gF124, zn_gT128, zn_gF128, zn_gT560, zn_gF560, zn_lT7, zn_lF7, zn_lT120, zn_lF120, zn_qT7, zn_qF7, zn_qT120, zn_qF120, zn_qT0, zn_qF0, zn_qT1, zn_qF1, zn_hT0, zn_hF0, zn_hT7, zn_hF7, zn_sb, pk_us, zn_us, hu, hy]
        refine zx_cut (by omega) h1 h2 (by omega) ?_
        rw [if_pos (Nat.le_refl _)]
        simp (disch := omega) only [zn_k4, zn_k8, zn_k16, zn_k32, zn_m16, zn_a64, zn_a128, nI_add, nI_1, nI_clamp, vp_in_nI, true_and, and_true, forall_eq, zn_rN, zn_rB, zn_rO, zn_rE, zn_vb0, zn_vb1, zn_b1, zn_b0, zn_d1, zn_d0, zn_e1, zn_e0, zn_wN, zn_wB1, zn_wB0, zn_wO, zn_wOd, zn_wO0, zn_wE, zn_wEe, zn_wE0, zn_leT, zn_leF, zn_ltT, zn_ltF, zn_eqF, zn_eqT, zn_lt0, zn_0le, zn_d2a, zn_d2b, zn_e1a, zn_e1b, zn_10, zn_00, zn_sh4, zn_an15, true_imp_iff, false_imp_iff, imp_true_iff, not_true_eq_false, not_false_eq_true, zn_gT4, zn_gF4, zn_gT8, zn_gF8, zn_gT12, zn_gF12, zn_gT48, zn_gF48, zn_gT124, zn_gF124, zn_gT128, zn_gF128, zn_gT560, zn_gF560, zn_lT7, zn_lF7, zn_lT120, zn_lF120, zn_qT7, zn_qF7, zn_qT120, zn_qF120, zn_qT0, zn_qF0, zn_qT1, zn_qF1, zn_hT0, zn_hF0, zn_hT7, zn_hF7, zn_sb, pk_us, zn_us]
        first | exact ⟨rfl, zr_mk F1⟩ | exact zr_mk F1
      · simp (disch := omega) only [zn_k4, zn_k8, zn_k16, zn_k32, zn_m16, zn_a64, zn_a128, nI_add, nI_1, nI_clamp, vp_in_nI, true_and, and_true, forall_eq, zn_rN, zn_rB, zn_rO, zn_rE, zn_vb0, zn_vb1, zn_b1, zn_b0, zn_d1, zn_d0, zn_e1, zn_e0, zn_wN, zn_wB1, zn_wB0, zn_wO, zn_wOd, zn_wO0, zn_wE, zn_wEe, zn_wE0, zn_leT, zn_leF, zn_ltT, zn_ltF, zn_eqF, zn_eqT, zn_lt0, zn_0le, zn_d2a, zn_d2b, zn_e1a, zn_e1b, zn_10, zn_00, zn_sh4, zn_an15, true_imp_iff, false_imp_iff, imp_true_iff, not_true_eq_false, not_false_eq_true, zn_gT4, zn_gF4, zn_gT8, zn_gF8, zn_gT12, zn_gF12, zn_gT48, zn_gF48, zn_gT124, zn_gF124, zn_gT128, zn_gF128, zn_gT560, zn_gF560, zn_lT7, zn_lF7, zn_lT120, zn_lF120, zn_qT7, zn_qF7, zn_qT120, zn_qF120, zn_qT0, zn_qF0, zn_qT1, zn_qF1, zn_hT0, zn_hF0, zn_hT7, zn_hF7, zn_sb, pk_us, zn_us, hu, hy]
        first | exact ⟨rfl, R⟩ | exact R
theorem zt_recover {v1 : Int32} (F : zr_F n sc lm sv rl bg ix ic st en xo xp xt xk xl xm gp gi gx go ch to gq gf sf xup yup kn fl xs gs gm gv gr ga xv xrs xrr xra xss P D) : wpX_recover (fun r u' => wpY_recover (fun r' v' => r' = r ∧ i_Rel (k + 4) u' v') (nI n, nI sc, nI lm, nI sv, nI bg, nI rl, zc_N gp, zc_N gi, zc_N gx, gv, zc_E gq, zc_E gf, gr, ga, zc_N go, zc_B gs, zc_B gm, zc_B yp, zc_B yup, zc_N ix, zc_N ic, zc_N st, un, rp, dc, zc_N ch, zc_N en, zc_B kn, zc_B fl, zc_N to, zc_E sf, sr, sa, op, ol, ov) v1) (nI n, nI sc, nI lm, nI sv, nI rl, nI bg, zc_B xup, zc_N ix, zc_N ic, zc_N st, un, rp, dc, xv, zc_B xs, zc_N xo, xrs, xrr, xra, zc_O xp, zc_O xt, xss, sr, sa, zc_N en, zc_N xk, zc_N xl, zc_E xm, op, ol, ov) v1 := by
  have R : i_Rel (k + 4) (nI n, nI sc, nI lm, nI sv, nI rl, nI bg, zc_B xup, zc_N ix, zc_N ic, zc_N st, un, rp, dc, xv, zc_B xs, zc_N xo, xrs, xrr, xra, zc_O xp, zc_O xt, xss, sr, sa, zc_N en, zc_N xk, zc_N xl, zc_E xm, op, ol, ov) (nI n, nI sc, nI lm, nI sv, nI bg, nI rl, zc_N gp, zc_N gi, zc_N gx, gv, zc_E gq, zc_E gf, gr, ga, zc_N go, zc_B gs, zc_B gm, zc_B yp, zc_B yup, zc_N ix, zc_N ic, zc_N st, un, rp, dc, zc_N ch, zc_N en, zc_B kn, zc_B fl, zc_N to, zc_E sf, sr, sa, op, ol, ov) := zr_mk F
  have F0 := F
  obtain ⟨hnum, hb1, hb2, hb3, hup, hk1, hk2, hG, hiv, hD, hcur, hch, hK, hv, hd, hsl, hm, hsm, hfr, hsv⟩ := F
  obtain ⟨hn, hsc, hlm, hsvn, hrl, hbg⟩ := hnum
  have hix12 : ∀ j, ix j ≤ 12 := fun j => Nat.le_trans (hb1.1 j) hlm.2
  unfold wpX_recover wpY_recover wpX_isProcess wpY_isProcess
  rcases pk_ix v1 (n := n) (by omega) with h | h | ⟨p, hp, rfl⟩
  · simp (disch := omega) only [zn_k4, zn_k8, zn_k16, zn_k32, zn_m16, zn_a64, zn_a128, nI_add, nI_1, nI_clamp, vp_in_nI, true_and, and_true, forall_eq, zn_rN, zn_rB, zn_rO, zn_rE, zn_vb0, zn_vb1, zn_b1, zn_b0, zn_d1, zn_d0, zn_e1, zn_e0, zn_wN, zn_wB1, zn_wB0, zn_wO, zn_wOd, zn_wO0, zn_wE, zn_wEe, zn_wE0, zn_leT, zn_leF, zn_ltT, zn_ltF, zn_eqF, zn_eqT, zn_lt0, zn_0le, zn_d2a, zn_d2b, zn_e1a, zn_e1b, zn_10, zn_00, zn_sh4, zn_an15, true_imp_iff, false_imp_iff, imp_true_iff, not_true_eq_false, not_false_eq_true, zn_gT4, zn_gF4, zn_gT8, zn_gF8, zn_gT12, zn_gF12, zn_gT48, zn_gF48, zn_gT124, zn_gF124, zn_gT128, zn_gF128, zn_gT560, zn_gF560, zn_lT7, zn_lF7, zn_lT120, zn_lF120, zn_qT7, zn_qF7, zn_qT120, zn_qF120, zn_qT0, zn_qF0, zn_qT1, zn_qF1, zn_hT0, zn_hF0, zn_hT7, zn_hF7, zn_sb, pk_us, zn_us, h]
    first | exact ⟨rfl, R⟩ | exact R
  · simp (disch := omega) only [zn_k4, zn_k8, zn_k16, zn_k32, zn_m16, zn_a64, zn_a128, nI_add, nI_1, nI_clamp, vp_in_nI, true_and, and_true, forall_eq, zn_rN, zn_rB, zn_rO, zn_rE, zn_vb0, zn_vb1, zn_b1, zn_b0, zn_d1, zn_d0, zn_e1, zn_e0, zn_wN, zn_wB1, zn_wB0, zn_wO, zn_wOd, zn_wO0, zn_wE, zn_wEe, zn_wE0, zn_leT, zn_leF, zn_ltT, zn_ltF, zn_eqF, zn_eqT, zn_lt0, zn_0le, zn_d2a, zn_d2b, zn_e1a, zn_e1b, zn_10, zn_00, zn_sh4, zn_an15, true_imp_iff, false_imp_iff, imp_true_iff, not_true_eq_false, not_false_eq_true, zn_gT4, zn_gF4, zn_gT8, zn_gF8, zn_gT12, zn_gF12, zn_gT48, zn_gF48, zn_gT124, zn_gF124, zn_gT128, zn_gF128, zn_gT560, zn_gF560, zn_lT7, zn_lF7, zn_lT120, zn_lF120, zn_qT7, zn_qF7, zn_qT120, zn_qF120, zn_qT0, zn_qF0, zn_qT1, zn_qF1, zn_hT0, zn_hF0, zn_hT7, zn_hF7, zn_sb, pk_us, zn_us, h, zr_nn h (by omega)]
    first | exact ⟨rfl, R⟩ | exact R
  · have hu := (hup p hp).1
    have h2 := hix12 p
    cases hy : yup p with
    | true =>
      rw [hy] at hu
      simp (disch := omega) only [zn_k4, zn_k8, zn_k16, zn_k32, zn_m16, zn_a64, zn_a128, nI_add, nI_1, nI_clamp, vp_in_nI, true_and, and_true, forall_eq, zn_rN, zn_rB, zn_rO, zn_rE, zn_vb0, zn_vb1, zn_b1, zn_b0, zn_d1, zn_d0, zn_e1, zn_e0, zn_wN, zn_wB1, zn_wB0, zn_wO, zn_wOd, zn_wO0, zn_wE, zn_wEe, zn_wE0, zn_leT, zn_leF, zn_ltT, zn_ltF, zn_eqF, zn_eqT, zn_lt0, zn_0le, zn_d2a, zn_d2b, zn_e1a, zn_e1b, zn_10, zn_00, zn_sh4, zn_an15, true_imp_iff, false_imp_iff, imp_true_iff, not_true_eq_false, not_false_eq_true, zn_gT4, zn_gF4, zn_gT8, zn_gF8, zn_gT12, zn_gF12, zn_gT48, zn_gF48, zn_gT124, zn_gF124, zn_gT128, zn_gF128, zn_gT560, zn_gF560, zn_lT7, zn_lF7, zn_lT120, zn_lF120, zn_qT7, zn_qF7, zn_qT120, zn_qF120, zn_qT0, zn_qF0, zn_qT1, zn_qF1, zn_hT0, zn_hF0, zn_hT7, zn_hF7, zn_sb, pk_us, zn_us, hu, hy]
      first | exact ⟨rfl, R⟩ | exact R
    | false =>
      rw [hy] at hu
      have h7 := (hup p hp).2.1 hy
      have F1 := zr_recF F0 hp hy
      have he : zf_last (fun j => gs (ch (p * 16 + j))) (ix p) = zf_last (fun j => xs (p * 16 + j)) (ix p) := zf_last_cg _ (fun j h4 => (hd p j hp (by omega)).2.1.symm)
      have hl := zf_last_le (fun j => xs (p * 16 + j)) (ix p)
      simp (disch := omega) only [zn_k4, zn_k8, zn_k16, zn_k32, zn_m16, zn_a64, zn_a128, nI_add, nI_1, nI_clamp, vp_in_nI, true_and, and_true, forall_eq, zn_rN, zn_rB, zn_rO, zn_rE, zn_vb0, zn_vb1, zn_b1, zn_b0, zn_d1, zn_d0, zn_e1, zn_e0, zn_wN, zn_wB1, zn_wB0, zn_wO, zn_wOd, zn_wO0, zn_wE, zn_wEe, zn_wE0, zn_leT, zn_leF, zn_ltT, zn_ltF, zn_eqF, zn_eqT, zn_lt0, zn_0le, zn_d2a, zn_d2b, zn_e1a, zn_e1b, zn_10, zn_00, zn_sh4, zn_an15, true_imp_iff, false_imp_iff, imp_true_iff, not_true_eq_false, not_false_eq_true, zn_gT4, zn_gF4, zn_gT8, zn_gF8, zn_gT12, zn_gF12, zn_gT48, zn_gF48, zn_gT124, zn_gF124, zn_gT128, zn_gF128, zn_gT560, zn_gF560, zn_lT7, zn_lF7, zn_lT120, zn_lF120, zn_qT7, zn_qF7, zn_qT120, zn_qF120, zn_qT0, zn_qF0, zn_qT1, zn_qF1, zn_hT0, zn_hF0, zn_hT7, zn_hF7, zn_sb, pk_us, zn_us, hu, hy]
      refine zx_recEnd (by omega) h7 h2 hb2.2.2.2.2.1 ?_
      simp (disch := omega) only [zn_k4, zn_k8, zn_k16, zn_k32, zn_m16, zn_a64, zn_a128, nI_add, nI_1, nI_clamp, vp_in_nI, true_and, and_true, forall_eq, zn_rN, zn_rB, zn_rO, zn_rE, zn_vb0, zn_vb1, zn_b1, zn_b0, zn_d1, zn_d0, zn_e1, zn_e0, zn_wN, zn_wB1, zn_wB0, zn_wO, zn_wOd, zn_wO0, zn_wE, zn_wEe, zn_wE0, zn_leT, zn_leF, zn_ltT, zn_ltF, zn_eqF, zn_eqT, zn_lt0, zn_0le, zn_d2a, zn_d2b, zn_e1a, zn_e1b, zn_10, zn_00, zn_sh4, zn_an15, true_imp_iff, false_imp_iff, imp_true_iff, not_true_eq_false, not_false_eq_true, zn_gT4, zn_gF4, zn_gT8, zn_gF8, zn_gT12, zn_gF12, zn_gT48, zn_gF48, zn_gT124, zn_gF124, zn_gT128, zn_gF128, zn_gT560, zn_gF560, zn_lT7, zn_lF7, zn_lT120, zn_lF120, zn_qT7, zn_qF7, zn_qT120, zn_qF120, zn_qT0, zn_qF0, zn_qT1, zn_qF1, zn_hT0, zn_hF0, zn_hT7, zn_hF7, zn_sb, pk_us, zn_us]
      refine zx_replay (by omega) hix12 ?_
      dsimp only
      refine zy_recEnd (by omega) h7 ?_
      simp (disch := omega) only [zn_k4, zn_k8, zn_k16, zn_k32, zn_m16, zn_a64, zn_a128, nI_add, nI_1, nI_clamp, vp_in_nI, true_and, and_true, forall_eq, zn_rN, zn_rB, zn_rO, zn_rE, zn_vb0, zn_vb1, zn_b1, zn_b0, zn_d1, zn_d0, zn_e1, zn_e0, zn_wN, zn_wB1, zn_wB0, zn_wO, zn_wOd, zn_wO0, zn_wE, zn_wEe, zn_wE0, zn_leT, zn_leF, zn_ltT, zn_ltF, zn_eqF, zn_eqT, zn_lt0, zn_0le, zn_d2a, zn_d2b, zn_e1a, zn_e1b, zn_10, zn_00, zn_sh4, zn_an15, true_imp_iff, false_imp_iff, imp_true_iff, not_true_eq_false, not_false_eq_true, zn_gT4, zn_gF4, zn_gT8, zn_gF8, zn_gT12, zn_gF12, zn_gT48, zn_gF48, zn_gT124, zn_gF124, zn_gT128, zn_gF128, zn_gT560, zn_gF560, zn_lT7, zn_lF7, zn_lT120, zn_lF120, zn_qT7, zn_qF7, zn_qT120, zn_qF120, zn_qT0, zn_qF0, zn_qT1, zn_qF1, zn_hT0, zn_hF0, zn_hT7, zn_hF7, zn_sb, pk_us, zn_us]
      refine zy_base (by omega) hix12 hb3.2.2.2.2.1 ?_
      rw [he]
      simp (disch := omega) only [zn_k4, zn_k8, zn_k16, zn_k32, zn_m16, zn_a64, zn_a128, nI_add, nI_1, nI_clamp, vp_in_nI, true_and, and_true, forall_eq, zn_rN, zn_rB, zn_rO, zn_rE, zn_vb0, zn_vb1, zn_b1, zn_b0, zn_d1, zn_d0, zn_e1, zn_e0, zn_wN, zn_wB1, zn_wB0, zn_wO, zn_wOd, zn_wO0, zn_wE, zn_wEe, zn_wE0, zn_leT, zn_leF, zn_ltT, zn_ltF, zn_eqF, zn_eqT, zn_lt0, zn_0le, zn_d2a, zn_d2b, zn_e1a, zn_e1b, zn_10, zn_00, zn_sh4, zn_an15, true_imp_iff, false_imp_iff, imp_true_iff, not_true_eq_false, not_false_eq_true, zn_gT4, zn_gF4, zn_gT8, zn_gF8, zn_gT12, zn_gF12, zn_gT48, zn_gF48, zn_gT124, zn_gF124, zn_gT128, zn_gF128, zn_gT560, zn_gF560, zn_lT7, zn_lF7, zn_lT120, zn_lF120, zn_qT7, zn_qF7, zn_qT120, zn_qF120, zn_qT0, zn_qF0, zn_qT1, zn_qF1, zn_hT0, zn_hF0, zn_hT7, zn_hF7, zn_sb, pk_us, zn_us]
      first | exact ⟨rfl, zr_mk F1⟩ | exact zr_mk F1
end
end
section
/-! judge and deliver -/
def zd_v (e d o w f s : Bool) : Int32 := if e then -2 else if d then -3 else if o then -6 else if w then -5 else if f then -4 else if s then -10 else 1
section
variable {n sc lm sv rl bg : Nat} {xup xs gs gm yp yup kn fl : Nat → Bool} {ix ic st xo xp xt en xk xl xm gp gi gx gq gf go ch to sf : Nat → Nat} {un rp dc xv xrs xrr xra xss sr sa op ol ov gv gr ga : Nat → Int32}
variable {P : Nat → Nat → Bool} {D : Nat → Nat → Nat} {k : Nat}
theorem zx_judge0 {post : Int32 → Prop} {s : Nat} (hs : s < sc) (hsc : sc ≤ 12) (hx : xt s = 0) (hp : post (-2)) : wpX_judge post (nI n, nI sc, nI lm, nI sv, nI rl, nI bg, zc_B xup, zc_N ix, zc_N ic, zc_N st, un, rp, dc, xv, zc_B xs, zc_N xo, xrs, xrr, xra, zc_O xp, zc_O xt, xss, sr, sa, zc_N en, zc_N xk, zc_N xl, zc_E xm, op, ol, ov) (nI s) := by
  unfold wpX_judge wpX_isSlot
  simp (disch := omega) only [zn_k4, zn_k8, zn_k16, zn_k32, zn_m16, zn_a64, zn_a128, nI_add, nI_1, nI_clamp, vp_in_nI, true_and, and_true, forall_eq, zn_rN, zn_rB, zn_rO, zn_rE, zn_vb0, zn_vb1, zn_b1, zn_b0, zn_d1, zn_d0, zn_e1, zn_e0, zn_wN, zn_wB1, zn_wB0, zn_wO, zn_wOd, zn_wO0, zn_wE, zn_wEe, zn_wE0, zn_leT, zn_leF, zn_ltT, zn_ltF, zn_eqF, zn_eqT, zn_lt0, zn_0le, zn_d2a, zn_d2b, zn_e1a, zn_e1b, zn_10, zn_00, zn_sh4, zn_an15, true_imp_iff, false_imp_iff, imp_true_iff, not_true_eq_false, not_false_eq_true, zn_gT4, zn_gF4, zn_gT8, zn_gF8, zn_gT12, zn_gF12, zn_gT48, zn_gF48, zn_gT124, zn_gF124, zn_gT128, zn_gF128, zn_gT560, zn_gF560, zn_lT7, zn_lF7, zn_lT120, zn_lF120, zn_qT7, zn_qF7, zn_qT120, zn_qF120, zn_qT0, zn_qF0, zn_qT1, zn_qF1, zn_hT0, zn_hF0, zn_hT7, zn_hF7, zn_sb, pk_us, zn_us, hx]
  exact hp
theorem zx_judge {post : Int32 → Prop} {s p : Nat} (hn : n ≤ 4) (hs : s < sc) (hsc : sc ≤ 12) (hx : xt s = p + 1) (hp4 : p < 4) (hix : ∀ j, ix j ≤ 12) (hlm : lm ≤ 12) (hbg : bg ≤ 120) (hxp : ∀ j, xp j ≤ 128) (hxl : ∀ j, xl j ≤ 16) (hxk : ∀ j, xk j < 256) (hp : post (zd_v false (!xup p) (zq_orph xp xl n p (128 + s)) (zq_wait xp xk n p (128 + s)) (decide (lm ≤ ix p)) (decide (120 ≤ bg)))) : wpX_judge post (nI n, nI sc, nI lm, nI sv, nI rl, nI bg, zc_B xup, zc_N ix, zc_N ic, zc_N st, un, rp, dc, xv, zc_B xs, zc_N xo, xrs, xrr, xra, zc_O xp, zc_O xt, xss, sr, sa, zc_N en, zc_N xk, zc_N xl, zc_E xm, op, ol, ov) (nI s) := by
  have hi := hix p
  unfold wpX_judge wpX_isSlot
  cases hu : xup p with
  | false =>
    rw [hu] at hp
    simp (disch := omega) only [zn_k4, zn_k8, zn_k16, zn_k32, zn_m16, zn_a64, zn_a128, nI_add, nI_1, nI_clamp, vp_in_nI, true_and, and_true, forall_eq, zn_rN, zn_rB, zn_rO, zn_rE, zn_vb0, zn_vb1, zn_b1, zn_b0, zn_d1, zn_d0, zn_e1, zn_e0, zn_wN, zn_wB1, zn_wB0, zn_wO, zn_wOd, zn_wO0, zn_wE, zn_wEe, zn_wE0, zn_leT, zn_leF, zn_ltT, zn_ltF, zn_eqF, zn_eqT, zn_lt0, zn_0le, zn_d2a, zn_d2b, zn_e1a, zn_e1b, zn_10, zn_00, zn_sh4, zn_an15, true_imp_iff, false_imp_iff, imp_true_iff, not_true_eq_false, not_false_eq_true, zn_gT4, zn_gF4, zn_gT8, zn_gF8, zn_gT12, zn_gF12, zn_gT48, zn_gF48, zn_gT124, zn_gF124, zn_gT128, zn_gF128, zn_gT560, zn_gF560, zn_lT7, zn_lF7, zn_lT120, zn_lF120, zn_qT7, zn_qF7, zn_qT120, zn_qF120, zn_qT0, zn_qF0, zn_qT1, zn_qF1, zn_hT0, zn_hF0, zn_hT7, zn_hF7, zn_sb, pk_us, zn_us, hx, hu]
    exact hp
  | true =>
    rw [hu] at hp
    simp (disch := omega) only [zn_k4, zn_k8, zn_k16, zn_k32, zn_m16, zn_a64, zn_a128, nI_add, nI_1, nI_clamp, vp_in_nI, true_and, and_true, forall_eq, zn_rN, zn_rB, zn_rO, zn_rE, zn_vb0, zn_vb1, zn_b1, zn_b0, zn_d1, zn_d0, zn_e1, zn_e0, zn_wN, zn_wB1, zn_wB0, zn_wO, zn_wOd, zn_wO0, zn_wE, zn_wEe, zn_wE0, zn_leT, zn_leF, zn_ltT, zn_ltF, zn_eqF, zn_eqT, zn_lt0, zn_0le, zn_d2a, zn_d2b, zn_e1a, zn_e1b, zn_10, zn_00, zn_sh4, zn_an15, true_imp_iff, false_imp_iff, imp_true_iff, not_true_eq_false, not_false_eq_true, zn_gT4, zn_gF4, zn_gT8, zn_gF8, zn_gT12, zn_gF12, zn_gT48, zn_gF48, zn_gT124, zn_gF124, zn_gT128, zn_gF128, zn_gT560, zn_gF560, zn_lT7, zn_lF7, zn_lT120, zn_lF120, zn_qT7, zn_qF7, zn_qT120, zn_qF120, zn_qT0, zn_qF0, zn_qT1, zn_qF1, zn_hT0, zn_hF0, zn_hT7, zn_hF7, zn_sb, pk_us, zn_us, hx, hu]
    refine zx_orph hn hp4 (by omega) hxp hxl ?_
    cases ho : zq_orph xp xl n p (128 + s) with
    | true =>
      rw [ho] at hp
      simp (disch := omega) only [zn_k4, zn_k8, zn_k16, zn_k32, zn_m16, zn_a64, zn_a128, nI_add, nI_1, nI_clamp, vp_in_nI, true_and, and_true, forall_eq, zn_rN, zn_rB, zn_rO, zn_rE, zn_vb0, zn_vb1, zn_b1, zn_b0, zn_d1, zn_d0, zn_e1, zn_e0, zn_wN, zn_wB1, zn_wB0, zn_wO, zn_wOd, zn_wO0, zn_wE, zn_wEe, zn_wE0, zn_leT, zn_leF, zn_ltT, zn_ltF, zn_eqF, zn_eqT, zn_lt0, zn_0le, zn_d2a, zn_d2b, zn_e1a, zn_e1b, zn_10, zn_00, zn_sh4, zn_an15, true_imp_iff, false_imp_iff, imp_true_iff, not_true_eq_false, not_false_eq_true, zn_gT4, zn_gF4, zn_gT8, zn_gF8, zn_gT12, zn_gF12, zn_gT48, zn_gF48, zn_gT124, zn_gF124, zn_gT128, zn_gF128, zn_gT560, zn_gF560, zn_lT7, zn_lF7, zn_lT120, zn_lF120, zn_qT7, zn_qF7, zn_qT120, zn_qF120, zn_qT0, zn_qF0, zn_qT1, zn_qF1, zn_hT0, zn_hF0, zn_hT7, zn_hF7, zn_sb, pk_us, zn_us]
      exact hp
    | false =>
      rw [ho] at hp
      simp (disch := omega) only [zn_k4, zn_k8, zn_k16, zn_k32, zn_m16, zn_a64, zn_a128, nI_add, nI_1, nI_clamp, vp_in_nI, true_and, and_true, forall_eq, zn_rN, zn_rB, zn_rO, zn_rE, zn_vb0, zn_vb1, zn_b1, zn_b0, zn_d1, zn_d0, zn_e1, zn_e0, zn_wN, zn_wB1, zn_wB0, zn_wO, zn_wOd, zn_wO0, zn_wE, zn_wEe, zn_wE0, zn_leT, zn_leF, zn_ltT, zn_ltF, zn_eqF, zn_eqT, zn_lt0, zn_0le, zn_d2a, zn_d2b, zn_e1a, zn_e1b, zn_10, zn_00, zn_sh4, zn_an15, true_imp_iff, false_imp_iff, imp_true_iff, not_true_eq_false, not_false_eq_true, zn_gT4, zn_gF4, zn_gT8, zn_gF8, zn_gT12, zn_gF12, zn_gT48, zn_gF48, zn_gT124, zn_gF124, zn_gT128, zn_gF128, zn_gT560, zn_gF560, zn_lT7, zn_lF7, zn_lT120, zn_lF120, zn_qT7, zn_qF7, zn_qT120, zn_qF120, zn_qT0, zn_qF0, zn_qT1, zn_qF1, zn_hT0, zn_hF0, zn_hT7, zn_hF7, zn_sb, pk_us, zn_us]
      refine zx_wait hn hp4 (by omega) hxp hxk ?_
      cases hw : zq_wait xp xk n p (128 + s) with
      | true =>
        rw [hw] at hp
        simp (disch := omega) only [zn_k4, zn_k8, zn_k16, zn_k32, zn_m16, zn_a64, zn_a128, nI_add, nI_1, nI_clamp, vp_in_nI, true_and, and_true, forall_eq, zn_rN, zn_rB, zn_rO, zn_rE, zn_vb0, zn_vb1, zn_b1, zn_b0, zn_d1, zn_d0, zn_e1, zn_e0, zn_wN, zn_wB1, zn_wB0, zn_wO, zn_wOd, zn_wO0, zn_wE, zn_wEe, zn_wE0, zn_leT, zn_leF, zn_ltT, zn_ltF, zn_eqF, zn_eqT, zn_lt0, zn_0le, zn_d2a, zn_d2b, zn_e1a, zn_e1b, zn_10, zn_00, zn_sh4, zn_an15, true_imp_iff, false_imp_iff, imp_true_iff, not_true_eq_false, not_false_eq_true, zn_gT4, zn_gF4, zn_gT8, zn_gF8, zn_gT12, zn_gF12, zn_gT48, zn_gF48, zn_gT124, zn_gF124, zn_gT128, zn_gF128, zn_gT560, zn_gF560, zn_lT7, zn_lF7, zn_lT120, zn_lF120, zn_qT7, zn_qF7, zn_qT120, zn_qF120, zn_qT0, zn_qF0, zn_qT1, zn_qF1, zn_hT0, zn_hF0, zn_hT7, zn_hF7, zn_sb, pk_us, zn_us]
        exact hp
      | false =>
        rw [hw] at hp
        by_cases hf : lm ≤ ix p
        · rw [decide_eq_true hf] at hp
          simp (disch := omega) only [zn_k4, zn_k8, zn_k16, zn_k32, zn_m16, zn_a64, zn_a128, nI_add, nI_1, nI_clamp, vp_in_nI, true_and, and_true, forall_eq, zn_rN, zn_rB, zn_rO, zn_rE, zn_vb0, zn_vb1, zn_b1, zn_b0, zn_d1, zn_d0, zn_e1, zn_e0, zn_wN, zn_wB1, zn_wB0, zn_wO, zn_wOd, zn_wO0, zn_wE, zn_wEe, zn_wE0, zn_leT, zn_leF, zn_ltT, zn_ltF, zn_eqF, zn_eqT, zn_lt0, zn_0le, zn_d2a, zn_d2b, zn_e1a, zn_e1b, zn_10, zn_00, zn_sh4, zn_an15, true_imp_iff, false_imp_iff, imp_true_iff, not_true_eq_false, not_false_eq_true, zn_gT4, zn_gF4, zn_gT8, zn_gF8, zn_gT12, zn_gF12, zn_gT48, zn_gF48, zn_gT124, zn_gF124, zn_gT128, zn_gF128, zn_gT560, zn_gF560, zn_lT7, zn_lF7, zn_lT120, zn_lF120, zn_qT7, zn_qF7, zn_qT120, zn_qF120, zn_qT0, zn_qF0, zn_qT1, zn_qF1, zn_hT0, zn_hF0, zn_hT7, zn_hF7, zn_sb, pk_us, zn_us]
          exact hp
        · rw [decide_eq_false hf] at hp
          by_cases hb : 120 ≤ bg
          · rw [decide_eq_true hb] at hp
            simp (disch := omega) only [zn_k4, zn_k8, zn_k16, zn_k32, zn_m16, zn_a64, zn_a128, nI_add, nI_1, nI_clamp, vp_in_nI, true_and, and_true, forall_eq, zn_rN, zn_rB, zn_rO, zn_rE, zn_vb0, zn_vb1, zn_b1, zn_b0, zn_d1, zn_d0, zn_e1, zn_e0, zn_wN, zn_wB1, zn_wB0, zn_wO, zn_wOd, zn_wO0, zn_wE, zn_wEe, zn_wE0, zn_leT, zn_leF, zn_ltT, zn_ltF, zn_eqF, zn_eqT, zn_lt0, zn_0le, zn_d2a, zn_d2b, zn_e1a, zn_e1b, zn_10, zn_00, zn_sh4, zn_an15, true_imp_iff, false_imp_iff, imp_true_iff, not_true_eq_false, not_false_eq_true, zn_gT4, zn_gF4, zn_gT8, zn_gF8, zn_gT12, zn_gF12, zn_gT48, zn_gF48, zn_gT124, zn_gF124, zn_gT128, zn_gF128, zn_gT560, zn_gF560, zn_lT7, zn_lF7, zn_lT120, zn_lF120, zn_qT7, zn_qF7, zn_qT120, zn_qF120, zn_qT0, zn_qF0, zn_qT1, zn_qF1, zn_hT0, zn_hF0, zn_hT7, zn_hF7, zn_sb, pk_us, zn_us]
            exact hp
          · rw [decide_eq_false hb] at hp
            simp (disch := omega) only [zn_k4, zn_k8, zn_k16, zn_k32, zn_m16, zn_a64, zn_a128, nI_add, nI_1, nI_clamp, vp_in_nI, true_and, and_true, forall_eq, zn_rN, zn_rB, zn_rO, zn_rE, zn_vb0, zn_vb1, zn_b1, zn_b0, zn_d1, zn_d0, zn_e1, zn_e0, zn_wN, zn_wB1, zn_wB0, zn_wO, zn_wOd, zn_wO0, zn_wE, zn_wEe, zn_wE0, zn_leT, zn_leF, zn_ltT, zn_ltF, zn_eqF, zn_eqT, zn_lt0, zn_0le, zn_d2a, zn_d2b, zn_e1a, zn_e1b, zn_10, zn_00, zn_sh4, zn_an15, true_imp_iff, false_imp_iff, imp_true_iff, not_true_eq_false, not_false_eq_true, zn_gT4, zn_gF4, zn_gT8, zn_gF8, zn_gT12, zn_gF12, zn_gT48, zn_gF48, zn_gT124, zn_gF124, zn_gT128, zn_gF128, zn_gT560, zn_gF560, zn_lT7, zn_lF7, zn_lT120, zn_lF120, zn_qT7, zn_qF7, zn_qT120, zn_qF120, zn_qT0, zn_qF0, zn_qT1, zn_qF1, zn_hT0, zn_hF0, zn_hT7, zn_hF7, zn_sb, pk_us, zn_us]
            exact hp
theorem zy_judge0 {post : Int32 → SY → Prop} {s : Nat} (hs : s < sc) (hsc : sc ≤ 12) (hx : fl s = false) (hp : post (-2) (nI n, nI sc, nI lm, nI sv, nI bg, nI rl, zc_N gp, zc_N gi, zc_N gx, gv, zc_E gq, zc_E gf, gr, ga, zc_N go, zc_B gs, zc_B gm, zc_B yp, zc_B yup, zc_N ix, zc_N ic, zc_N st, un, rp, dc, zc_N ch, zc_N en, zc_B kn, zc_B fl, zc_N to, zc_E sf, sr, sa, op, ol, ov)) : wpY_judge post (nI n, nI sc, nI lm, nI sv, nI bg, nI rl, zc_N gp, zc_N gi, zc_N gx, gv, zc_E gq, zc_E gf, gr, ga, zc_N go, zc_B gs, zc_B gm, zc_B yp, zc_B yup, zc_N ix, zc_N ic, zc_N st, un, rp, dc, zc_N ch, zc_N en, zc_B kn, zc_B fl, zc_N to, zc_E sf, sr, sa, op, ol, ov) (nI s) := by
  unfold wpY_judge
  simp (disch := omega) only [zn_k4, zn_k8, zn_k16, zn_k32, zn_m16, zn_a64, zn_a128, nI_add, nI_1, nI_clamp, vp_in_nI, true_and, and_true, forall_eq, zn_rN, zn_rB, zn_rO, zn_rE, zn_vb0, zn_vb1, zn_b1, zn_b0, zn_d1, zn_d0, zn_e1, zn_e0, zn_wN, zn_wB1, zn_wB0, zn_wO, zn_wOd, zn_wO0, zn_wE, zn_wEe, zn_wE0, zn_leT, zn_leF, zn_ltT, zn_ltF, zn_eqF, zn_eqT, zn_lt0, zn_0le, zn_d2a, zn_d2b, zn_e1a, zn_e1b, zn_10, zn_00, zn_sh4, zn_an15, true_imp_iff, false_imp_iff, imp_true_iff, not_true_eq_false, not_false_eq_true, zn_gT4, zn_gF4, zn_gT8, zn_gF8, zn_gT12, zn_gF12, zn_gT48, zn_gF48, zn_gT124, zn_gF124, zn_gT128, zn_gF128, zn_gT560, zn_gF560, zn_lT7, zn_lF7, zn_lT120, zn_lF120, zn_qT7, zn_qF7, zn_qT120, zn_qF120, zn_qT0, zn_qF0, zn_qT1, zn_qF1, zn_hT0, zn_hF0, zn_hT7, zn_hF7, zn_sb, pk_us, zn_us, hx]
  exact hp
theorem zy_judge {post : Int32 → SY → Prop} {N s p : Nat} (hs : s < sc) (hsc : sc ≤ 12) (hx : fl s = true) (hto : to s = p) (hp4 : p < 4) (hix : ∀ j, ix j ≤ 12) (hlm : lm ≤ 12) (hbg : bg ≤ 120) (G : zg_G N gq gf P) (hN : N ≤ 124) (hm : sf s ≤ N) (hb3 : zr_b3 gp gi gx go ch to) (hen : ∀ j, en j ≤ 12) (hp : ∀ b : Nat → Bool, post (zd_v false (!yup p) (zq_yor P gp gi gx en kn (sf s) p) (zq_ywt P gp gi kn (sf s) p) (decide (ix p = lm)) (decide (bg = 120))) (nI n, nI sc, nI lm, nI sv, nI bg, nI rl, zc_N gp, zc_N gi, zc_N gx, gv, zc_E gq, zc_E gf, gr, ga, zc_N go, zc_B gs, zc_B gm, zc_B (b), zc_B yup, zc_N ix, zc_N ic, zc_N st, un, rp, dc, zc_N ch, zc_N en, zc_B kn, zc_B fl, zc_N to, zc_E sf, sr, sa, op, ol, ov)) : wpY_judge post (nI n, nI sc, nI lm, nI sv, nI bg, nI rl, zc_N gp, zc_N gi, zc_N gx, gv, zc_E gq, zc_E gf, gr, ga, zc_N go, zc_B gs, zc_B gm, zc_B yp, zc_B yup, zc_N ix, zc_N ic, zc_N st, un, rp, dc, zc_N ch, zc_N en, zc_B kn, zc_B fl, zc_N to, zc_E sf, sr, sa, op, ol, ov) (nI s) := by
  have hi := hix p
  unfold wpY_judge
  cases hu : yup p with
  | false =>
    rw [hu] at hp
    simp (disch := omega) only [zn_k4, zn_k8, zn_k16, zn_k32, zn_m16, zn_a64, zn_a128, nI_add, nI_1, nI_clamp, vp_in_nI, true_and, and_true, forall_eq, zn_rN, zn_rB, zn_rO, zn_rE, zn_vb0, zn_vb1, zn_b1, zn_b0, zn_d1, zn_d0, zn_e1, zn_e0, zn_wN, zn_wB1, zn_wB0, zn_wO, zn_wOd, zn_wO0, zn_wE, zn_wEe, zn_wE0, zn_leT, zn_leF, zn_ltT, zn_ltF, zn_eqF, zn_eqT, zn_lt0, zn_0le, zn_d2a, zn_d2b, zn_e1a, zn_e1b, zn_10, zn_00, zn_sh4, zn_an15, true_imp_iff, false_imp_iff, imp_true_iff, not_true_eq_false, not_false_eq_true, zn_gT4, zn_gF4, zn_gT8, zn_gF8, zn_gT12, zn_gF12, zn_gT48, zn_gF48, zn_gT124, zn_gF124, zn_gT128, zn_gF128, zn_gT560, zn_gF560, zn_lT7, zn_lF7, zn_lT120, zn_lF120, zn_qT7, zn_qF7, zn_qT120, zn_qF120, zn_qT0, zn_qF0, zn_qT1, zn_qF1, zn_hT0, zn_hF0, zn_hT7, zn_hF7, zn_sb, pk_us, zn_us, hx, hto, hu]
    exact hp yp
  | true =>
    rw [hu] at hp
    simp (disch := omega) only [zn_k4, zn_k8, zn_k16, zn_k32, zn_m16, zn_a64, zn_a128, nI_add, nI_1, nI_clamp, vp_in_nI, true_and, and_true, forall_eq, zn_rN, zn_rB, zn_rO, zn_rE, zn_vb0, zn_vb1, zn_b1, zn_b0, zn_d1, zn_d0, zn_e1, zn_e0, zn_wN, zn_wB1, zn_wB0, zn_wO, zn_wOd, zn_wO0, zn_wE, zn_wEe, zn_wE0, zn_leT, zn_leF, zn_ltT, zn_ltF, zn_eqF, zn_eqT, zn_lt0, zn_0le, zn_d2a, zn_d2b, zn_e1a, zn_e1b, zn_10, zn_00, zn_sh4, zn_an15, true_imp_iff, false_imp_iff, imp_true_iff, not_true_eq_false, not_false_eq_true, zn_gT4, zn_gF4, zn_gT8, zn_gF8, zn_gT12, zn_gF12, zn_gT48, zn_gF48, zn_gT124, zn_gF124, zn_gT128, zn_gF128, zn_gT560, zn_gF560, zn_lT7, zn_lF7, zn_lT120, zn_lF120, zn_qT7, zn_qF7, zn_qT120, zn_qF120, zn_qT0, zn_qF0, zn_qT1, zn_qF1, zn_hT0, zn_hF0, zn_hT7, zn_hF7, zn_sb, pk_us, zn_us, hx, hto, hu]
    refine zy_orph G hN hm hp4 hb3.1 hb3.2.1 hb3.2.2.1 hen (fun b => ?_)
    cases ho : zq_yor P gp gi gx en kn (sf s) p with
    | true =>
      rw [ho] at hp
      simp (disch := omega) only [zn_k4, zn_k8, zn_k16, zn_k32, zn_m16, zn_a64, zn_a128, nI_add, nI_1, nI_clamp, vp_in_nI, true_and, and_true, forall_eq, zn_rN, zn_rB, zn_rO, zn_rE, zn_vb0, zn_vb1, zn_b1, zn_b0, zn_d1, zn_d0, zn_e1, zn_e0, zn_wN, zn_wB1, zn_wB0, zn_wO, zn_wOd, zn_wO0, zn_wE, zn_wEe, zn_wE0, zn_leT, zn_leF, zn_ltT, zn_ltF, zn_eqF, zn_eqT, zn_lt0, zn_0le, zn_d2a, zn_d2b, zn_e1a, zn_e1b, zn_10, zn_00, zn_sh4, zn_an15, true_imp_iff, false_imp_iff, imp_true_iff, not_true_eq_false, not_false_eq_true, zn_gT4, zn_gF4, zn_gT8, zn_gF8, zn_gT12, zn_gF12, zn_gT48, zn_gF48, zn_gT124, zn_gF124, zn_gT128, zn_gF128, zn_gT560, zn_gF560, zn_lT7, zn_lF7, zn_lT120, zn_lF120, zn_qT7, zn_qF7, zn_qT120, zn_qF120, zn_qT0, zn_qF0, zn_qT1, zn_qF1, zn_hT0, zn_hF0, zn_hT7, zn_hF7, zn_sb, pk_us, zn_us]
      exact hp b
    | false =>
      rw [ho] at hp
      simp (disch := omega) only [zn_k4, zn_k8, zn_k16, zn_k32, zn_m16, zn_a64, zn_a128, nI_add, nI_1, nI_clamp, vp_in_nI, true_and, and_true, forall_eq, zn_rN, zn_rB, zn_rO, zn_rE, zn_vb0, zn_vb1, zn_b1, zn_b0, zn_d1, zn_d0, zn_e1, zn_e0, zn_wN, zn_wB1, zn_wB0, zn_wO, zn_wOd, zn_wO0, zn_wE, zn_wEe, zn_wE0, zn_leT, zn_leF, zn_ltT, zn_ltF, zn_eqF, zn_eqT, zn_lt0, zn_0le, zn_d2a, zn_d2b, zn_e1a, zn_e1b, zn_10, zn_00, zn_sh4, zn_an15, true_imp_iff, false_imp_iff, imp_true_iff, not_true_eq_false, not_false_eq_true, zn_gT4, zn_gF4, zn_gT8, zn_gF8, zn_gT12, zn_gF12, zn_gT48, zn_gF48, zn_gT124, zn_gF124, zn_gT128, zn_gF128, zn_gT560, zn_gF560, zn_lT7, zn_lF7, zn_lT120, zn_lF120, zn_qT7, zn_qF7, zn_qT120, zn_qF120, zn_qT0, zn_qF0, zn_qT1, zn_qF1, zn_hT0, zn_hF0, zn_hT7, zn_hF7, zn_sb, pk_us, zn_us]
      refine zy_wait G hN hm hp4 hb3.1 hb3.2.1 (fun b => ?_)
      cases hw : zq_ywt P gp gi kn (sf s) p with
      | true =>
        rw [hw] at hp
        simp (disch := omega) only [zn_k4, zn_k8, zn_k16, zn_k32, zn_m16, zn_a64, zn_a128, nI_add, nI_1, nI_clamp, vp_in_nI, true_and, and_true, forall_eq, zn_rN, zn_rB, zn_rO, zn_rE, zn_vb0, zn_vb1, zn_b1, zn_b0, zn_d1, zn_d0, zn_e1, zn_e0, zn_wN, zn_wB1, zn_wB0, zn_wO, zn_wOd, zn_wO0, zn_wE, zn_wEe, zn_wE0, zn_leT, zn_leF, zn_ltT, zn_ltF, zn_eqF, zn_eqT, zn_lt0, zn_0le, zn_d2a, zn_d2b, zn_e1a, zn_e1b, zn_10, zn_00, zn_sh4, zn_an15, true_imp_iff, false_imp_iff, imp_true_iff, not_true_eq_false, not_false_eq_true, zn_gT4, zn_gF4, zn_gT8, zn_gF8, zn_gT12, zn_gF12, zn_gT48, zn_gF48, zn_gT124, zn_gF124, zn_gT128, zn_gF128, zn_gT560, zn_gF560, zn_lT7, zn_lF7, zn_lT120, zn_lF120, zn_qT7, zn_qF7, zn_qT120, zn_qF120, zn_qT0, zn_qF0, zn_qT1, zn_qF1, zn_hT0, zn_hF0, zn_hT7, zn_hF7, zn_sb, pk_us, zn_us]
        exact hp b
      | false =>
        rw [hw] at hp
        by_cases hf : ix p = lm
        · rw [decide_eq_true hf] at hp
          simp (disch := omega) only [zn_k4, zn_k8, zn_k16, zn_k32, zn_m16, zn_a64, zn_a128, nI_add, nI_1, nI_clamp, vp_in_nI, true_and, and_true, forall_eq, zn_rN, zn_rB, zn_rO, zn_rE, zn_vb0, zn_vb1, zn_b1, zn_b0, zn_d1, zn_d0, zn_e1, zn_e0, zn_wN, zn_wB1, zn_wB0, zn_wO, zn_wOd, zn_wO0, zn_wE, zn_wEe, zn_wE0, zn_leT, zn_leF, zn_ltT, zn_ltF, zn_eqF, zn_eqT, zn_lt0, zn_0le, zn_d2a, zn_d2b, zn_e1a, zn_e1b, zn_10, zn_00, zn_sh4, zn_an15, true_imp_iff, false_imp_iff, imp_true_iff, not_true_eq_false, not_false_eq_true, zn_gT4, zn_gF4, zn_gT8, zn_gF8, zn_gT12, zn_gF12, zn_gT48, zn_gF48, zn_gT124, zn_gF124, zn_gT128, zn_gF128, zn_gT560, zn_gF560, zn_lT7, zn_lF7, zn_lT120, zn_lF120, zn_qT7, zn_qF7, zn_qT120, zn_qF120, zn_qT0, zn_qF0, zn_qT1, zn_qF1, zn_hT0, zn_hF0, zn_hT7, zn_hF7, zn_sb, pk_us, zn_us]
          exact hp b
        · rw [decide_eq_false hf] at hp
          by_cases hb : bg = 120
          · rw [decide_eq_true hb] at hp
            simp (disch := omega) only [zn_k4, zn_k8, zn_k16, zn_k32, zn_m16, zn_a64, zn_a128, nI_add, nI_1, nI_clamp, vp_in_nI, true_and, and_true, forall_eq, zn_rN, zn_rB, zn_rO, zn_rE, zn_vb0, zn_vb1, zn_b1, zn_b0, zn_d1, zn_d0, zn_e1, zn_e0, zn_wN, zn_wB1, zn_wB0, zn_wO, zn_wOd, zn_wO0, zn_wE, zn_wEe, zn_wE0, zn_leT, zn_leF, zn_ltT, zn_ltF, zn_eqF, zn_eqT, zn_lt0, zn_0le, zn_d2a, zn_d2b, zn_e1a, zn_e1b, zn_10, zn_00, zn_sh4, zn_an15, true_imp_iff, false_imp_iff, imp_true_iff, not_true_eq_false, not_false_eq_true, zn_gT4, zn_gF4, zn_gT8, zn_gF8, zn_gT12, zn_gF12, zn_gT48, zn_gF48, zn_gT124, zn_gF124, zn_gT128, zn_gF128, zn_gT560, zn_gF560, zn_lT7, zn_lF7, zn_lT120, zn_lF120, zn_qT7, zn_qF7, zn_qT120, zn_qF120, zn_qT0, zn_qF0, zn_qT1, zn_qF1, zn_hT0, zn_hF0, zn_hT7, zn_hF7, zn_sb, pk_us, zn_us]
            exact hp b
          · rw [decide_eq_false hb] at hp
            simp (disch := omega) only [zn_k4, zn_k8, zn_k16, zn_k32, zn_m16, zn_a64, zn_a128, nI_add, nI_1, nI_clamp, vp_in_nI, true_and, and_true, forall_eq, zn_rN, zn_rB, zn_rO, zn_rE, zn_vb0, zn_vb1, zn_b1, zn_b0, zn_d1, zn_d0, zn_e1, zn_e0, zn_wN, zn_wB1, zn_wB0, zn_wO, zn_wOd, zn_wO0, zn_wE, zn_wEe, zn_wE0, zn_leT, zn_leF, zn_ltT, zn_ltF, zn_eqF, zn_eqT, zn_lt0, zn_0le, zn_d2a, zn_d2b, zn_e1a, zn_e1b, zn_10, zn_00, zn_sh4, zn_an15, true_imp_iff, false_imp_iff, imp_true_iff, not_true_eq_false, not_false_eq_true, zn_gT4, zn_gF4, zn_gT8, zn_gF8, zn_gT12, zn_gF12, zn_gT48, zn_gF48, zn_gT124, zn_gF124, zn_gT128, zn_gF128, zn_gT560, zn_gF560, zn_lT7, zn_lF7, zn_lT120, zn_lF120, zn_qT7, zn_qF7, zn_qT120, zn_qF120, zn_qT0, zn_qF0, zn_qT1, zn_qF1, zn_hT0, zn_hF0, zn_hT7, zn_hF7, zn_sb, pk_us, zn_us]
            exact hp b
theorem zr_judge {s p : Nat} (F : zr_F n sc lm sv rl bg ix ic st en xo xp xt xk xl xm gp gi gx go ch to gq gf sf xup yup kn fl xs gs gm gv gr ga xv xrs xrr xra xss P D) (hs : s < sc) (hx : xt s = p + 1) : p < n ∧ to s = p ∧ fl s = true ∧ xup p = yup p ∧ zq_orph xp xl n p (128 + s) = zq_yor P gp gi gx en kn (sf s) p ∧ zq_wait xp xk n p (128 + s) = zq_ywt P gp gi kn (sf s) p ∧ decide (lm ≤ ix p) = decide (ix p = lm) ∧ decide (120 ≤ bg) = decide (bg = 120) := by
  obtain ⟨hnum, hb1, hb2, hb3, hup, hk1, hk2, hG, hiv, hD, hcur, hch, hK, hv, hd, hsl, hm, hsm, hfr, hsv⟩ := F
  obtain ⟨hn, hsc, hlm, hsvn, hrl, hbg⟩ := hnum
  have h0 := hsl s hs
  have h1 := h0.2 (by omega)
  have e : to s = p := by omega
  have hpn : p < n := by rw [← e]; exact h1.2.1
  have hi := hb1.1 p
  refine ⟨hpn, e, by rw [h0.1, decide_eq_true (by omega)], (hup p hpn).1, zr_orph hn.2 (by omega) hb3 hk1 hG hiv hD h1.2.2.1 hpn h1.2.2.2.2, zr_wait hn.2 (by omega) hb3 hk1 hG hiv hD h1.2.2.1 hpn h1.2.2.2.2, zr_bx ?_, zr_bx ?_⟩
  · rw [decide_eq_true_eq, decide_eq_true_eq]; omega
  · rw [decide_eq_true_eq, decide_eq_true_eq]; omega
theorem zt_judge {v1 : Int32} (F : zr_F n sc lm sv rl bg ix ic st en xo xp xt xk xl xm gp gi gx go ch to gq gf sf xup yup kn fl xs gs gm gv gr ga xv xrs xrr xra xss P D) : wpX_judge (fun r => wpY_judge (fun r' v' => r' = r ∧ i_Rel (k + 4) (nI n, nI sc, nI lm, nI sv, nI rl, nI bg, zc_B xup, zc_N ix, zc_N ic, zc_N st, un, rp, dc, xv, zc_B xs, zc_N xo, xrs, xrr, xra, zc_O xp, zc_O xt, xss, sr, sa, zc_N en, zc_N xk, zc_N xl, zc_E xm, op, ol, ov) v') (nI n, nI sc, nI lm, nI sv, nI bg, nI rl, zc_N gp, zc_N gi, zc_N gx, gv, zc_E gq, zc_E gf, gr, ga, zc_N go, zc_B gs, zc_B gm, zc_B yp, zc_B yup, zc_N ix, zc_N ic, zc_N st, un, rp, dc, zc_N ch, zc_N en, zc_B kn, zc_B fl, zc_N to, zc_E sf, sr, sa, op, ol, ov) v1) (nI n, nI sc, nI lm, nI sv, nI rl, nI bg, zc_B xup, zc_N ix, zc_N ic, zc_N st, un, rp, dc, xv, zc_B xs, zc_N xo, xrs, xrr, xra, zc_O xp, zc_O xt, xss, sr, sa, zc_N en, zc_N xk, zc_N xl, zc_E xm, op, ol, ov) v1 := by
  have R : ∀ b, i_Rel (k + 4) (nI n, nI sc, nI lm, nI sv, nI rl, nI bg, zc_B xup, zc_N ix, zc_N ic, zc_N st, un, rp, dc, xv, zc_B xs, zc_N xo, xrs, xrr, xra, zc_O xp, zc_O xt, xss, sr, sa, zc_N en, zc_N xk, zc_N xl, zc_E xm, op, ol, ov) (nI n, nI sc, nI lm, nI sv, nI bg, nI rl, zc_N gp, zc_N gi, zc_N gx, gv, zc_E gq, zc_E gf, gr, ga, zc_N go, zc_B gs, zc_B gm, zc_B (b), zc_B yup, zc_N ix, zc_N ic, zc_N st, un, rp, dc, zc_N ch, zc_N en, zc_B kn, zc_B fl, zc_N to, zc_E sf, sr, sa, op, ol, ov) := fun b => zr_mk F
  have F0 := F
  obtain ⟨hnum, hb1, hb2, hb3, hup, hk1, hk2, hG, hiv, hD, hcur, hch, hK, hv, hd, hsl, hm, hsm, hfr, hsv⟩ := F
  obtain ⟨hn, hsc, hlm, hsvn, hrl, hbg⟩ := hnum
  have hix12 : ∀ j, ix j ≤ 12 := fun j => Nat.le_trans (hb1.1 j) hlm.2
  rcases pk_ix v1 (n := sc) (by omega) with h | h | ⟨s, hs, rfl⟩
  · unfold wpX_judge wpX_isSlot wpY_judge
    simp (disch := omega) only [zn_k4, zn_k8, zn_k16, zn_k32, zn_m16, zn_a64, zn_a128, nI_add, nI_1, nI_clamp, vp_in_nI, true_and, and_true, forall_eq, zn_rN, zn_rB, zn_rO, zn_rE, zn_vb0, zn_vb1, zn_b1, zn_b0, zn_d1, zn_d0, zn_e1, zn_e0, zn_wN, zn_wB1, zn_wB0, zn_wO, zn_wOd, zn_wO0, zn_wE, zn_wEe, zn_wE0, zn_leT, zn_leF, zn_ltT, zn_ltF, zn_eqF, zn_eqT, zn_lt0, zn_0le, zn_d2a, zn_d2b, zn_e1a, zn_e1b, zn_10, zn_00, zn_sh4, zn_an15, true_imp_iff, false_imp_iff, imp_true_iff, not_true_eq_false, not_false_eq_true, zn_gT4, zn_gF4, zn_gT8, zn_gF8, zn_gT12, zn_gF12, zn_gT48, zn_gF48, zn_gT124, zn_gF124, zn_gT128, zn_gF128, zn_gT560, zn_gF560, zn_lT7, zn_lF7, zn_lT120, zn_lF120, zn_qT7, zn_qF7, zn_qT120, zn_qF120, zn_qT0, zn_qF0, zn_qT1, zn_qF1, zn_hT0, zn_hF0, zn_hT7, zn_hF7, zn_sb, pk_us, zn_us, h]
    first | exact ⟨rfl, R _⟩ | exact R _
  · have h2 : (v1 < nI sc) = False := eq_false (fun z => absurd (Int32.lt_of_le_of_lt h z) Int32.lt_irrefl)
    unfold wpX_judge wpX_isSlot wpY_judge
    simp (disch := omega) only [zn_k4, zn_k8, zn_k16, zn_k32, zn_m16, zn_a64, zn_a128, nI_add, nI_1, nI_clamp, vp_in_nI, true_and, and_true, forall_eq, zn_rN, zn_rB, zn_rO, zn_rE, zn_vb0, zn_vb1, zn_b1, zn_b0, zn_d1, zn_d0, zn_e1, zn_e0, zn_wN, zn_wB1, zn_wB0, zn_wO, zn_wOd, zn_wO0, zn_wE, zn_wEe, zn_wE0, zn_leT, zn_leF, zn_ltT, zn_ltF, zn_eqF, zn_eqT, zn_lt0, zn_0le, zn_d2a, zn_d2b, zn_e1a, zn_e1b, zn_10, zn_00, zn_sh4, zn_an15, true_imp_iff, false_imp_iff, imp_true_iff, not_true_eq_false, not_false_eq_true, zn_gT4, zn_gF4, zn_gT8, zn_gF8, zn_gT12, zn_gF12, zn_gT48, zn_gF48, zn_gT124, zn_gF124, zn_gT128, zn_gF128, zn_gT560, zn_gF560, zn_lT7, zn_lF7, zn_lT120, zn_lF120, zn_qT7, zn_qF7, zn_qT120, zn_qF120, zn_qT0, zn_qF0, zn_qT1, zn_qF1, zn_hT0, zn_hF0, zn_hT7, zn_hF7, zn_sb, pk_us, zn_us, h, h2, zr_nn h (by omega)]
    first | exact ⟨rfl, R _⟩ | exact R _
  · have h0 := hsl s hs
    have hx4 := hb2.2.2.1 s
    cases hq : xt s with
    | zero =>
      have hf : fl s = false := by rw [h0.1, decide_eq_false (fun z => z hq)]
      exact zx_judge0 hs hsc.2 hq (zy_judge0 hs hsc.2 hf ⟨rfl, R _⟩)
    | succ p =>
      have hj := zr_judge F0 hs hq
      have h1 := h0.2 (by omega)
      refine zx_judge hn.2 hs hsc.2 hq (by omega) hix12 hlm.2 hbg hb2.2.1 hb2.2.2.2.2.1 hb2.2.2.2.1 ?_
      refine zy_judge hs hsc.2 hj.2.2.1 hj.2.1 (by omega) hix12 hlm.2 hbg hG (by omega) h1.2.2.1 hb3 hb1.2.2.2 (fun b => ?_)
      rw [hj.2.2.2.1, hj.2.2.2.2.1, hj.2.2.2.2.2.1, hj.2.2.2.2.2.2.1, hj.2.2.2.2.2.2.2]
      exact ⟨rfl, R b⟩
theorem zx_begin {post : SX → Prop} {s p : Nat} (hn : n ≤ 4) (hs : s < sc) (hsc : sc ≤ 12) (hx : xt s = p + 1) (hp4 : p < n) (hix : ix p < 12) (hic : ic p ≤ 7) (hbg : bg < 120) (hxp : ∀ j, xp j ≤ 128) (hxt : ∀ j, xt j ≤ 4) (h0 : zd_dst (zd_7 (sr s)) p n = 0 → post (nI n, nI sc, nI lm, nI sv, nI rl, nI (bg + 1), zc_B xup, zc_N (zc_u ix p (ix p + 1)), zc_N ic, zc_N st, un, rp, dc, (upd xv (p * 16 + (ix p + 1)) (31 * xv (p * 16 + ix p) + sa s)), zc_B (zc_u xs (p * 16 + (ix p + 1)) false), zc_N (zd_out (zd_7 (sr s)) (zc_u xo (p * 16 + (ix p + 1)) 0) (p * 16 + (ix p + 1))), (upd xrs (p * 16 + (ix p + 1)) (xss s)), (upd xrr (p * 16 + (ix p + 1)) (sr s)), (upd xra (p * 16 + (ix p + 1)) (sa s)), zc_O (zc_u (zv_mg (zv_cp xp (128 + s) (64 + (p * 16 + (ix p + 1))) 4) (p * 16 + ix p) (64 + (p * 16 + (ix p + 1))) (p * 16 + (ix p + 1)) 4) ((p * 16 + (ix p + 1)) * 4 + p) (16 * ic p + (ix p + 1) + 1)), zc_O (zc_u xt s 0), xss, sr, sa, zc_N en, zc_N xk, zc_N xl, zc_E xm, op, ol, ov)) (h1 : ∀ t, zd_dst (zd_7 (sr s)) p n = t + 1 → zf_ff (fun i => decide (zc_u xt s 0 i = 0)) sc 0 = sc → post (nI n, nI sc, nI lm, nI sv, nI rl, nI (bg + 1), zc_B xup, zc_N (zc_u ix p (ix p + 1)), zc_N ic, zc_N st, un, rp, dc, (upd xv (p * 16 + (ix p + 1)) (31 * xv (p * 16 + ix p) + sa s)), zc_B (zc_u xs (p * 16 + (ix p + 1)) false), zc_N (zd_out (zd_7 (sr s)) (zc_u xo (p * 16 + (ix p + 1)) 0) (p * 16 + (ix p + 1))), (upd xrs (p * 16 + (ix p + 1)) (xss s)), (upd xrr (p * 16 + (ix p + 1)) (sr s)), (upd xra (p * 16 + (ix p + 1)) (sa s)), zc_O (zc_u (zv_mg (zv_cp xp (128 + s) (64 + (p * 16 + (ix p + 1))) 4) (p * 16 + ix p) (64 + (p * 16 + (ix p + 1))) (p * 16 + (ix p + 1)) 4) ((p * 16 + (ix p + 1)) * 4 + p) (16 * ic p + (ix p + 1) + 1)), zc_O (zc_u xt s 0), xss, sr, sa, zc_N en, zc_N xk, zc_N xl, zc_E xm, op, ol, ov)) (h2 : ∀ t q, zd_dst (zd_7 (sr s)) p n = t + 1 → t < n → q = zf_ff (fun i => decide (zc_u xt s 0 i = 0)) sc 0 → q < sc → post (nI n, nI sc, nI lm, nI sv, nI rl, nI (bg + 1), zc_B xup, zc_N (zc_u ix p (ix p + 1)), zc_N ic, zc_N st, un, rp, dc, (upd xv (p * 16 + (ix p + 1)) (31 * xv (p * 16 + ix p) + sa s)), zc_B (zc_u xs (p * 16 + (ix p + 1)) false), zc_N (zd_out (zd_7 (sr s)) (zc_u xo (p * 16 + (ix p + 1)) 0) (p * 16 + (ix p + 1))), (upd xrs (p * 16 + (ix p + 1)) (xss s)), (upd xrr (p * 16 + (ix p + 1)) (sr s)), (upd xra (p * 16 + (ix p + 1)) (sa s)), zc_O (zv_cp (zc_u (zv_mg (zv_cp xp (128 + s) (64 + (p * 16 + (ix p + 1))) 4) (p * 16 + ix p) (64 + (p * 16 + (ix p + 1))) (p * 16 + (ix p + 1)) 4) ((p * 16 + (ix p + 1)) * 4 + p) (16 * ic p + (ix p + 1) + 1)) (p * 16 + (ix p + 1)) (128 + q) 4), zc_O (zc_u (zc_u xt s 0) q (t + 1)), (upd xss q (nI p)), (upd sr q (zd_sh (sr s))), (upd sa q (31 * xv (p * 16 + ix p) + sa s)), zc_N en, zc_N xk, zc_N xl, zc_E xm, op, ol, ov)) : wpX_begin post (nI n, nI sc, nI lm, nI sv, nI rl, nI bg, zc_B xup, zc_N ix, zc_N ic, zc_N st, un, rp, dc, xv, zc_B xs, zc_N xo, xrs, xrr, xra, zc_O xp, zc_O xt, xss, sr, sa, zc_N en, zc_N xk, zc_N xl, zc_E xm, op, ol, ov) (nI s) := by
  unfold wpX_begin
  have e1 : p * 16 + (ix p + 1) - 1 = p * 16 + ix p := by omega
  have e2 : upd (zc_N xo) (p * 16 + (ix p + 1)) 0 = zc_N (zc_u xo (p * 16 + (ix p + 1)) 0) := zn_wN xo (p * 16 + (ix p + 1)) 0
  simp (disch := omega) only [zn_k4, zn_k8, zn_k16, zn_k32, zn_m16, zn_a64, zn_a128, nI_add, nI_1, nI_clamp, vp_in_nI, true_and, and_true, forall_eq, zn_rN, zn_rB, zn_rO, zn_rE, zn_vb0, zn_vb1, zn_b1, zn_b0, zn_d1, zn_d0, zn_e1, zn_e0, zn_wN, zn_wB1, zn_wB0, zn_wO, zn_wOd, zn_wO0, zn_wE, zn_wEe, zn_wE0, zn_leT, zn_leF, zn_ltT, zn_ltF, zn_eqF, zn_eqT, zn_lt0, zn_0le, zn_d2a, zn_d2b, zn_e1a, zn_e1b, zn_10, zn_00, zn_sh4, zn_an15, true_imp_iff, false_imp_iff, imp_true_iff, not_true_eq_false, not_false_eq_true, zn_gT4, zn_gF4, zn_gT8, zn_gF8, zn_gT12, zn_gF12, zn_gT48, zn_gF48, zn_gT124, zn_gF124, zn_gT128, zn_gF128, zn_gT560, zn_gF560, zn_lT7, zn_lF7, zn_lT120, zn_lF120, zn_qT7, zn_qF7, zn_qT120, zn_qF120, zn_qT0, zn_qF0, zn_qT1, zn_qF1, zn_hT0, zn_hF0, zn_hT7, zn_hF7, zn_sb, pk_us, zn_us, hx]
  refine zx_copy (by omega) (by omega) (by omega) ?_
  simp (disch := omega) only [zn_k4, zn_k8, zn_k16, zn_k32, zn_m16, zn_a64, zn_a128, nI_add, nI_1, nI_clamp, vp_in_nI, true_and, and_true, forall_eq, zn_rN, zn_rB, zn_rO, zn_rE, zn_vb0, zn_vb1, zn_b1, zn_b0, zn_d1, zn_d0, zn_e1, zn_e0, zn_wN, zn_wB1, zn_wB0, zn_wO, zn_wOd, zn_wO0, zn_wE, zn_wEe, zn_wE0, zn_leT, zn_leF, zn_ltT, zn_ltF, zn_eqF, zn_eqT, zn_lt0, zn_0le, zn_d2a, zn_d2b, zn_e1a, zn_e1b, zn_10, zn_00, zn_sh4, zn_an15, true_imp_iff, false_imp_iff, imp_true_iff, not_true_eq_false, not_false_eq_true, zn_gT4, zn_gF4, zn_gT8, zn_gF8, zn_gT12, zn_gF12, zn_gT48, zn_gF48, zn_gT124, zn_gF124, zn_gT128, zn_gF128, zn_gT560, zn_gF560, zn_lT7, zn_lF7, zn_lT120, zn_lF120, zn_qT7, zn_qF7, zn_qT120, zn_qF120, zn_qT0, zn_qF0, zn_qT1, zn_qF1, zn_hT0, zn_hF0, zn_hT7, zn_hF7, zn_sb, pk_us, zn_us, zn_s1, e1, e2]
  refine zx_merge (by omega) (by omega) (by omega) (by omega) (by omega) (zv_cp_b hxp _ _ _) ?_
  simp (disch := omega) only [zn_k4, zn_k8, zn_k16, zn_k32, zn_m16, zn_a64, zn_a128, nI_add, nI_1, nI_clamp, vp_in_nI, true_and, and_true, forall_eq, zn_rN, zn_rB, zn_rO, zn_rE, zn_vb0, zn_vb1, zn_b1, zn_b0, zn_d1, zn_d0, zn_e1, zn_e0, zn_wN, zn_wB1, zn_wB0, zn_wO, zn_wOd, zn_wO0, zn_wE, zn_wEe, zn_wE0, zn_leT, zn_leF, zn_ltT, zn_ltF, zn_eqF, zn_eqT, zn_lt0, zn_0le, zn_d2a, zn_d2b, zn_e1a, zn_e1b, zn_10, zn_00, zn_sh4, zn_an15, true_imp_iff, false_imp_iff, imp_true_iff, not_true_eq_false, not_false_eq_true, zn_gT4, zn_gF4, zn_gT8, zn_gF8, zn_gT12, zn_gF12, zn_gT48, zn_gF48, zn_gT124, zn_gF124, zn_gT128, zn_gF128, zn_gT560, zn_gF560, zn_lT7, zn_lF7, zn_lT120, zn_lF120, zn_qT7, zn_qF7, zn_qT120, zn_qF120, zn_qT0, zn_qF0, zn_qT1, zn_qF1, zn_hT0, zn_hF0, zn_hT7, zn_hF7, zn_sb, pk_us, zn_us]
  have hr : upd xrr (p * 16 + (ix p + 1)) (sr s) (p * 16 + (ix p + 1)) = sr s := pk_us
  have hw : upd xv (p * 16 + (ix p + 1)) (31 * xv (p * 16 + ix p) + sa s) (p * 16 + (ix p + 1)) = (31 * xv (p * 16 + ix p) + sa s) := pk_us
  refine zx_act hp4 (by omega) hn hsc (zn_ub hxt (by omega)) ?_ ?_ ?_
  · rw [hr]; exact h0
  · rw [hr]; exact h1
  · rw [hr, hw]; exact h2
end
end
section
/-! deliver -/
theorem zd_v3 : ∀ d o w f s : Bool, (zd_v false d o w f s = -6) ∨ (zd_v false d o w f s = 1 ∧ d = false ∧ o = false ∧ w = false ∧ f = false ∧ s = false) ∨ (¬ zd_v false d o w f s = -6 ∧ ¬ zd_v false d o w f s = 1 ∧ ¬ 0 ≤ zd_v false d o w f s) := by decide
section
variable {n sc lm sv rl bg : Nat} {xup xs gs gm yp yup kn fl : Nat → Bool} {ix ic st xo xp xt en xk xl xm gp gi gx gq gf go ch to sf : Nat → Nat} {un rp dc xv xrs xrr xra xss sr sa op ol ov gv gr ga : Nat → Int32}
variable {P : Nat → Nat → Bool} {D : Nat → Nat → Nat} {k : Nat}
theorem zx_judgeB {post : Int32 → Prop} {v1 : Int32} (hsc : sc ≤ 12) (h : v1 < 0 ∨ nI sc ≤ v1) (hp : post (-1)) : wpX_judge post (nI n, nI sc, nI lm, nI sv, nI rl, nI bg, zc_B xup, zc_N ix, zc_N ic, zc_N st, un, rp, dc, xv, zc_B xs, zc_N xo, xrs, xrr, xra, zc_O xp, zc_O xt, xss, sr, sa, zc_N en, zc_N xk, zc_N xl, zc_E xm, op, ol, ov) v1 := by
  unfold wpX_judge wpX_isSlot
  rcases h with h | h
  · exact br_t h (br_t rfl hp)
  · exact br_f (by rw [zr_nn h (by omega)]; exact id) (br_t h (br_t rfl hp))
theorem zy_judgeB {post : Int32 → SY → Prop} {v1 : Int32} (hsc : sc ≤ 12) (h : v1 < 0 ∨ nI sc ≤ v1) (hp : post (-1) (nI n, nI sc, nI lm, nI sv, nI bg, nI rl, zc_N gp, zc_N gi, zc_N gx, gv, zc_E gq, zc_E gf, gr, ga, zc_N go, zc_B gs, zc_B gm, zc_B yp, zc_B yup, zc_N ix, zc_N ic, zc_N st, un, rp, dc, zc_N ch, zc_N en, zc_B kn, zc_B fl, zc_N to, zc_E sf, sr, sa, op, ol, ov)) : wpY_judge post (nI n, nI sc, nI lm, nI sv, nI bg, nI rl, zc_N gp, zc_N gi, zc_N gx, gv, zc_E gq, zc_E gf, gr, ga, zc_N go, zc_B gs, zc_B gm, zc_B yp, zc_B yup, zc_N ix, zc_N ic, zc_N st, un, rp, dc, zc_N ch, zc_N en, zc_B kn, zc_B fl, zc_N to, zc_E sf, sr, sa, op, ol, ov) v1 := by
  unfold wpY_judge
  rcases h with h | h
  · exact br_t h hp
  · exact br_f (by rw [zr_nn h (by omega)]; exact id) (br_f (fun z => absurd (Int32.lt_of_le_of_lt h z) Int32.lt_irrefl) hp)
theorem zr_begF2 {w : Int32} {s p d : Nat} (F : zr_F n sc lm sv rl bg ix ic st en xo xp xt xk xl xm gp gi gx go ch to gq gf sf xup yup kn fl xs gs gm gv gr ga xv xrs xrr xra xss P D) (hs : s < sc) (hp : xt s = p + 1) (hpn : p < n) (hy : yup p = true) (hol : zr_ok p gp gi gx en kn P (sf s)) (hl : ix p < lm) (hbg : bg < 120) : zr_F n sc lm sv rl (bg + 1) (zc_u ix p (ix p + 1)) ic st en (zd_out d (zc_u xo (p * 16 + (ix p + 1)) 0) (p * 16 + (ix p + 1))) (zc_u (zv_mg (zv_cp xp (128 + s) (64 + (p * 16 + (ix p + 1))) 4) (p * 16 + ix p) (64 + (p * 16 + (ix p + 1))) (p * 16 + (ix p + 1)) 4) ((p * 16 + (ix p + 1)) * 4 + p) (16 * ic p + (ix p + 1) + 1)) (zc_u xt s 0) xk xl xm (zc_u gp (n + bg) p) (zc_u gi (n + bg) (ic p)) (zc_u gx (n + bg) (ix p + 1)) (zd_out d go (n + bg)) (zc_u ch (p * 16 + (ix p + 1)) (n + bg)) to (zc_u gq (n + bg) (ch (p * 16 + ix p) + 1)) (zc_u gf (n + bg) (sf s)) sf xup yup kn (zc_u fl s false) (zc_u xs (p * 16 + (ix p + 1)) false) gs gm (upd gv (n + bg) w) (upd gr (n + bg) (sr s)) (upd ga (n + bg) (sa s)) (upd xv (p * 16 + (ix p + 1)) w) (upd xrs (p * 16 + (ix p + 1)) (xss s)) (upd xrr (p * 16 + (ix p + 1)) (sr s)) (upd xra (p * 16 + (ix p + 1)) (sa s)) xss (zr_P P (n + bg) (ch (p * 16 + ix p) + 1) (sf s)) (zr_DD D (n + bg) p (16 * ic p + (ix p + 1) + 1) (ch (p * 16 + ix p) + 1) (sf s)) := by
  have F1 := zr_begF (w := w) (sr := sr) (sa := sa) F hs hp hy hol hl hbg
  unfold zd_out
  by_cases h : d = 5 ∨ d = 6
  · have F2 := zr_outF (p := p) (i := ix p + 1) (e := 1) F1 hpn (by rw [zn_us]; exact Nat.le_refl _) (by omega)
    rw [zn_us] at F2
    rw [if_pos h, if_pos h]
    exact F2
  · rw [if_neg h, if_neg h]
    exact F1
theorem zy_begin {post : Int32 → SY → Prop} {s p : Nat} (hn : n ≤ 4) (hs : s < sc) (hsc : sc ≤ 12) (hto : to s = p) (hp4 : p < n) (hix : ix p < 12) (hbg : bg < 120) (hch : ch (p * 16 + ix p) < 124) (h0 : zd_dst (zd_7 (sr s)) p n = 0 → post 1 (nI n, nI sc, nI lm, nI sv, nI (bg + 1), nI rl, zc_N (zc_u gp (n + bg) p), zc_N (zc_u gi (n + bg) (ic p)), zc_N (zc_u gx (n + bg) (ix p + 1)), (upd gv (n + bg) (31 * gv (ch (p * 16 + ix p)) + sa s)), zc_E (zc_u gq (n + bg) (ch (p * 16 + ix p) + 1)), zc_E (zc_u gf (n + bg) (sf s)), (upd gr (n + bg) (sr s)), (upd ga (n + bg) (sa s)), zc_N (zd_out (zd_7 (sr s)) go (n + bg)), zc_B gs, zc_B gm, zc_B yp, zc_B yup, zc_N (zc_u ix p (ix p + 1)), zc_N ic, zc_N st, un, rp, dc, zc_N (zc_u ch (p * 16 + (ix p + 1)) (n + bg)), zc_N en, zc_B kn, zc_B (zc_u fl s false), zc_N to, zc_E sf, sr, sa, op, ol, ov)) (h1 : ∀ t, zd_dst (zd_7 (sr s)) p n = t + 1 → zf_ff (fun i => !zc_u fl s false i) sc 0 = sc → post 1 (nI n, nI sc, nI lm, nI sv, nI (bg + 1), nI rl, zc_N (zc_u gp (n + bg) p), zc_N (zc_u gi (n + bg) (ic p)), zc_N (zc_u gx (n + bg) (ix p + 1)), (upd gv (n + bg) (31 * gv (ch (p * 16 + ix p)) + sa s)), zc_E (zc_u gq (n + bg) (ch (p * 16 + ix p) + 1)), zc_E (zc_u gf (n + bg) (sf s)), (upd gr (n + bg) (sr s)), (upd ga (n + bg) (sa s)), zc_N (zd_out (zd_7 (sr s)) go (n + bg)), zc_B gs, zc_B gm, zc_B yp, zc_B yup, zc_N (zc_u ix p (ix p + 1)), zc_N ic, zc_N st, un, rp, dc, zc_N (zc_u ch (p * 16 + (ix p + 1)) (n + bg)), zc_N en, zc_B kn, zc_B (zc_u fl s false), zc_N to, zc_E sf, sr, sa, op, ol, ov)) (h2 : ∀ t q, zd_dst (zd_7 (sr s)) p n = t + 1 → t < n → q = zf_ff (fun i => !zc_u fl s false i) sc 0 → q < sc → post 1 (nI n, nI sc, nI lm, nI sv, nI (bg + 1), nI rl, zc_N (zc_u gp (n + bg) p), zc_N (zc_u gi (n + bg) (ic p)), zc_N (zc_u gx (n + bg) (ix p + 1)), (upd gv (n + bg) (31 * gv (ch (p * 16 + ix p)) + sa s)), zc_E (zc_u gq (n + bg) (ch (p * 16 + ix p) + 1)), zc_E (zc_u gf (n + bg) (sf s)), (upd gr (n + bg) (sr s)), (upd ga (n + bg) (sa s)), zc_N (zd_out (zd_7 (sr s)) go (n + bg)), zc_B gs, zc_B gm, zc_B yp, zc_B yup, zc_N (zc_u ix p (ix p + 1)), zc_N ic, zc_N st, un, rp, dc, zc_N (zc_u ch (p * 16 + (ix p + 1)) (n + bg)), zc_N en, zc_B kn, zc_B (zc_u (zc_u fl s false) q true), zc_N (zc_u to q t), zc_E (zc_u sf q ((n + bg) + 1)), (upd sr q (zd_sh (sr s))), (upd sa q (31 * gv (ch (p * 16 + ix p)) + sa s)), op, ol, ov)) : wY_deliver_34 post (nI s) 1 (nI n) (nI sc) (nI lm) (nI sv) (nI bg) (nI rl) (zc_N gp) (zc_N gi) (zc_N gx) gv (zc_E gq) (zc_E gf) gr ga (zc_N go) (zc_B gs) (zc_B gm) (zc_B yp) (zc_B yup) (zc_N ix) (zc_N ic) (zc_N st) un rp dc (zc_N ch) (zc_N en) (zc_B kn) (zc_B fl) (zc_N to) (zc_E sf) sr sa op ol ov := by
  have hd := zd_7l (sr s)
  have he := zd_7e (sr s)
  have hr : upd gr (n + bg) (sr s) (n + bg) = sr s := pk_us
  have hw : upd gv (n + bg) (31 * gv (ch (p * 16 + ix p)) + sa s) (n + bg) = (31 * gv (ch (p * 16 + ix p)) + sa s) := pk_us
  have hk := zy_act262 (post := post) (p := p) (u := (n + bg)) (d := zd_7 (sr s)) (bg := bg + 1) (fl := zc_u fl s false) (gq := zc_u gq (n + bg) (ch (p * 16 + ix p) + 1)) (ix := zc_u ix p (ix p + 1)) (ch := zc_u ch (p * 16 + (ix p + 1)) (n + bg)) (gp := zc_u gp (n + bg) p) (gi := zc_u gi (n + bg) (ic p)) (gx := zc_u gx (n + bg) (ix p + 1)) (gf := zc_u gf (n + bg) (sf s)) (gr := upd gr (n + bg) (sr s)) (ga := upd ga (n + bg) (sa s)) (gv := upd gv (n + bg) (31 * gv (ch (p * 16 + ix p)) + sa s)) (go := zd_out (zd_7 (sr s)) go (n + bg)) hd hp4 (by omega) hn hsc h0 h1 (by rw [hr, hw]; exact h2)
  unfold wY_deliver_34
  have e0 : ((0 : Int32) ≤ 1) = True := by decide
  by_cases h5 : zd_7 (sr s) = 5
  · have e : zd_out (zd_7 (sr s)) go (n + bg) = zc_u go (n + bg) 1 := if_pos (Or.inl h5)
    rw [e] at hk
    have e1 : upd (zc_N go) (n + bg) 1 = zc_N (zc_u go (n + bg) 1) := zn_wN go (n + bg) 1
    simp (disch := omega) only [zn_k4, zn_k8, zn_k16, zn_k32, zn_m16, zn_a64, zn_a128, nI_add, nI_1, nI_clamp, vp_in_nI, true_and, and_true, forall_eq, zn_rN, zn_rB, zn_rO, zn_rE, zn_vb0, zn_vb1, zn_b1, zn_b0, zn_d1, zn_d0, zn_e1, zn_e0, zn_wN, zn_wB1, zn_wB0, zn_wO, zn_wOd, zn_wO0, zn_wE, zn_wEe, zn_wE0, zn_leT, zn_leF, zn_ltT, zn_ltF, zn_eqF, zn_eqT, zn_lt0, zn_0le, zn_d2a, zn_d2b, zn_e1a, zn_e1b, zn_10, zn_00, zn_sh4, zn_an15, true_imp_iff, false_imp_iff, imp_true_iff, not_true_eq_false, not_false_eq_true, zn_gT4, zn_gF4, zn_gT8, zn_gF8, zn_gT12, zn_gF12, zn_gT48, zn_gF48, zn_gT124, zn_gF124, zn_gT128, zn_gF128, zn_gT560, zn_gF560, zn_lT7, zn_lF7, zn_lT120, zn_lF120, zn_qT7, zn_qF7, zn_qT120, zn_qF120, zn_qT0, zn_qF0, zn_qT1, zn_qF1, zn_hT0, zn_hF0, zn_hT7, zn_hF7, zn_sb, pk_us, zn_us, e0, hto, he, zn_qT5, wY_deliver_254, e1]
    exact hk
  · by_cases h6 : zd_7 (sr s) = 6
    · have e : zd_out (zd_7 (sr s)) go (n + bg) = zc_u go (n + bg) 1 := if_pos (Or.inr h6)
      rw [e] at hk
      have e1 : upd (zc_N go) (n + bg) 1 = zc_N (zc_u go (n + bg) 1) := zn_wN go (n + bg) 1
      simp (disch := omega) only [zn_k4, zn_k8, zn_k16, zn_k32, zn_m16, zn_a64, zn_a128, nI_add, nI_1, nI_clamp, vp_in_nI, true_and, and_true, forall_eq, zn_rN, zn_rB, zn_rO, zn_rE, zn_vb0, zn_vb1, zn_b1, zn_b0, zn_d1, zn_d0, zn_e1, zn_e0, zn_wN, zn_wB1, zn_wB0, zn_wO, zn_wOd, zn_wO0, zn_wE, zn_wEe, zn_wE0, zn_leT, zn_leF, zn_ltT, zn_ltF, zn_eqF, zn_eqT, zn_lt0, zn_0le, zn_d2a, zn_d2b, zn_e1a, zn_e1b, zn_10, zn_00, zn_sh4, zn_an15, true_imp_iff, false_imp_iff, imp_true_iff, not_true_eq_false, not_false_eq_true, zn_gT4, zn_gF4, zn_gT8, zn_gF8, zn_gT12, zn_gF12, zn_gT48, zn_gF48, zn_gT124, zn_gF124, zn_gT128, zn_gF128, zn_gT560, zn_gF560, zn_lT7, zn_lF7, zn_lT120, zn_lF120, zn_qT7, zn_qF7, zn_qT120, zn_qF120, zn_qT0, zn_qF0, zn_qT1, zn_qF1, zn_hT0, zn_hF0, zn_hT7, zn_hF7, zn_sb, pk_us, zn_us, e0, hto, he, zn_qF5, zn_qT6, wY_deliver_254, e1]
      exact hk
    · have e : zd_out (zd_7 (sr s)) go (n + bg) = go := if_neg (fun z => z.elim h5 h6)
      rw [e] at hk
      simp (disch := omega) only [zn_k4, zn_k8, zn_k16, zn_k32, zn_m16, zn_a64, zn_a128, nI_add, nI_1, nI_clamp, vp_in_nI, true_and, and_true, forall_eq, zn_rN, zn_rB, zn_rO, zn_rE, zn_vb0, zn_vb1, zn_b1, zn_b0, zn_d1, zn_d0, zn_e1, zn_e0, zn_wN, zn_wB1, zn_wB0, zn_wO, zn_wOd, zn_wO0, zn_wE, zn_wEe, zn_wE0, zn_leT, zn_leF, zn_ltT, zn_ltF, zn_eqF, zn_eqT, zn_lt0, zn_0le, zn_d2a, zn_d2b, zn_e1a, zn_e1b, zn_10, zn_00, zn_sh4, zn_an15, true_imp_iff, false_imp_iff, imp_true_iff, not_true_eq_false, not_false_eq_true, zn_gT4, zn_gF4, zn_gT8, zn_gF8, zn_gT12, zn_gF12, zn_gT48, zn_gF48, zn_gT124, zn_gF124, zn_gT128, zn_gF128, zn_gT560, zn_gF560, zn_lT7, zn_lF7, zn_lT120, zn_lF120, zn_qT7, zn_qF7, zn_qT120, zn_qF120, zn_qT0, zn_qF0, zn_qT1, zn_qF1, zn_hT0, zn_hF0, zn_hT7, zn_hF7, zn_sb, pk_us, zn_us, e0, hto, he, zn_qF5, zn_qF6]
      exact hk
theorem zt_deliver {v1 : Int32} (F : zr_F n sc lm sv rl bg ix ic st en xo xp xt xk xl xm gp gi gx go ch to gq gf sf xup yup kn fl xs gs gm gv gr ga xv xrs xrr xra xss P D) : wpX_deliver (fun r u' => wpY_deliver (fun r' v' => r' = r ∧ i_Rel (k + 4) u' v') (nI n, nI sc, nI lm, nI sv, nI bg, nI rl, zc_N gp, zc_N gi, zc_N gx, gv, zc_E gq, zc_E gf, gr, ga, zc_N go, zc_B gs, zc_B gm, zc_B yp, zc_B yup, zc_N ix, zc_N ic, zc_N st, un, rp, dc, zc_N ch, zc_N en, zc_B kn, zc_B fl, zc_N to, zc_E sf, sr, sa, op, ol, ov) v1) (nI n, nI sc, nI lm, nI sv, nI rl, nI bg, zc_B xup, zc_N ix, zc_N ic, zc_N st, un, rp, dc, xv, zc_B xs, zc_N xo, xrs, xrr, xra, zc_O xp, zc_O xt, xss, sr, sa, zc_N en, zc_N xk, zc_N xl, zc_E xm, op, ol, ov) v1 := by
  have R : ∀ b, i_Rel (k + 4) (nI n, nI sc, nI lm, nI sv, nI rl, nI bg, zc_B xup, zc_N ix, zc_N ic, zc_N st, un, rp, dc, xv, zc_B xs, zc_N xo, xrs, xrr, xra, zc_O xp, zc_O xt, xss, sr, sa, zc_N en, zc_N xk, zc_N xl, zc_E xm, op, ol, ov) (nI n, nI sc, nI lm, nI sv, nI bg, nI rl, zc_N gp, zc_N gi, zc_N gx, gv, zc_E gq, zc_E gf, gr, ga, zc_N go, zc_B gs, zc_B gm, zc_B (b), zc_B yup, zc_N ix, zc_N ic, zc_N st, un, rp, dc, zc_N ch, zc_N en, zc_B kn, zc_B fl, zc_N to, zc_E sf, sr, sa, op, ol, ov) := fun b => zr_mk F
  have F0 := F
  obtain ⟨hnum, hb1, hb2, hb3, hup, hk1, hk2, hG, hiv, hD, hcur, hch, hK, hv, hd, hsl, hm, hsm, hfr, hsv⟩ := F
  obtain ⟨hn, hsc, hlm, hsvn, hrl, hbg⟩ := hnum
  have hix12 : ∀ j, ix j ≤ 12 := fun j => Nat.le_trans (hb1.1 j) hlm.2
  unfold wpX_deliver
  rcases pk_ix v1 (n := sc) (by omega) with h | h | ⟨s, hs, rfl⟩
  · refine zx_judgeB hsc.2 (Or.inl h) (br_f (by decide) (br_f (by decide) ?_))
    unfold wpY_deliver
    refine zy_judgeB hsc.2 (Or.inl h) (br_f (by decide) ?_)
    exact br_f (by decide) ⟨rfl, R _⟩
  · refine zx_judgeB hsc.2 (Or.inr h) (br_f (by decide) (br_f (by decide) ?_))
    unfold wpY_deliver
    refine zy_judgeB hsc.2 (Or.inr h) (br_f (by decide) ?_)
    exact br_f (by decide) ⟨rfl, R _⟩
  · have h0 := hsl s hs
    have hx4 := hb2.2.2.1 s
    cases hq : xt s with
    | zero =>
      have hf : fl s = false := by rw [h0.1, decide_eq_false (fun z => z hq)]
      refine zx_judge0 hs hsc.2 hq (br_f (by decide) (br_f (by decide) ?_))
      unfold wpY_deliver
      refine zy_judge0 hs hsc.2 hf (br_f (by decide) ?_)
      exact br_f (by decide) ⟨rfl, R _⟩
    | succ p =>
      have hj := zr_judge F0 hs hq
      have h1 := h0.2 (by omega)
      have hpn := hj.1
      have hpx := hix12 p
      refine zx_judge hn.2 hs hsc.2 hq (by omega) hix12 hlm.2 hbg hb2.2.1 hb2.2.2.2.2.1 hb2.2.2.2.1 ?_
      rw [hj.2.2.2.1, hj.2.2.2.2.1, hj.2.2.2.2.2.1, hj.2.2.2.2.2.2.1, hj.2.2.2.2.2.2.2]
      rcases zd_v3 (!yup p) (zq_yor P gp gi gx en kn (sf s) p) (zq_ywt P gp gi kn (sf s) p) (decide (ix p = lm)) (decide (bg = 120)) with hz | ⟨hz, hz1, hz2, hz3, hz4, hz5⟩ | ⟨hz1, hz2, hz3⟩
      · rw [hz]
        have e6 : ((-6 : Int32) = -6) = True := eq_self _
        have e7 : ((0 : Int32) ≤ -6) = False := by decide
        simp (disch := omega) only [zn_k4, zn_k8, zn_k16, zn_k32, zn_m16, zn_a64, zn_a128, nI_add, nI_1, nI_clamp, vp_in_nI, true_and, and_true, forall_eq, zn_rN, zn_rB, zn_rO, zn_rE, zn_vb0, zn_vb1, zn_b1, zn_b0, zn_d1, zn_d0, zn_e1, zn_e0, zn_wN, zn_wB1, zn_wB0, zn_wO, zn_wOd, zn_wO0, zn_wE, zn_wEe, zn_wE0, zn_leT, zn_leF, zn_ltT, zn_ltF, zn_eqF, zn_eqT, zn_lt0, zn_0le, zn_d2a, zn_d2b, zn_e1a, zn_e1b, zn_10, zn_00, zn_sh4, zn_an15, true_imp_iff, false_imp_iff, imp_true_iff, not_true_eq_false, not_false_eq_true, zn_gT4, zn_gF4, zn_gT8, zn_gF8, zn_gT12, zn_gF12, zn_gT48, zn_gF48, zn_gT124, zn_gF124, zn_gT128, zn_gF128, zn_gT560, zn_gF560, zn_lT7, zn_lF7, zn_lT120, zn_lF120, zn_qT7, zn_qF7, zn_qT120, zn_qF120, zn_qT0, zn_qF0, zn_qT1, zn_qF1, zn_hT0, zn_hF0, zn_hT7, zn_hF7, zn_sb, pk_us, zn_us, e6, hq]
        unfold wpY_deliver
        refine zy_judge hs hsc.2 hj.2.2.1 hj.2.1 (by omega) hix12 hlm.2 hbg hG (by omega) h1.2.2.1 hb3 hb1.2.2.2 (fun b => ?_)
        rw [hz]
        simp (disch := omega) only [zn_k4, zn_k8, zn_k16, zn_k32, zn_m16, zn_a64, zn_a128, nI_add, nI_1, nI_clamp, vp_in_nI, true_and, and_true, forall_eq, zn_rN, zn_rB, zn_rO, zn_rE, zn_vb0, zn_vb1, zn_b1, zn_b0, zn_d1, zn_d0, zn_e1, zn_e0, zn_wN, zn_wB1, zn_wB0, zn_wO, zn_wOd, zn_wO0, zn_wE, zn_wEe, zn_wE0, zn_leT, zn_leF, zn_ltT, zn_ltF, zn_eqF, zn_eqT, zn_lt0, zn_0le, zn_d2a, zn_d2b, zn_e1a, zn_e1b, zn_10, zn_00, zn_sh4, zn_an15, true_imp_iff, false_imp_iff, imp_true_iff, not_true_eq_false, not_false_eq_true, zn_gT4, zn_gF4, zn_gT8, zn_gF8, zn_gT12, zn_gF12, zn_gT48, zn_gF48, zn_gT124, zn_gF124, zn_gT128, zn_gF128, zn_gT560, zn_gF560, zn_lT7, zn_lF7, zn_lT120, zn_lF120, zn_qT7, zn_qF7, zn_qT120, zn_qF120, zn_qT0, zn_qF0, zn_qT1, zn_qF1, zn_hT0, zn_hF0, zn_hT7, zn_hF7, zn_sb, pk_us, zn_us, e6, e7, hj.2.1, wY_deliver_34]
        first | exact ⟨rfl, zr_mk (zr_emptyF (s := s) F0)⟩ | exact zr_mk (zr_emptyF (s := s) F0)
      · rw [hz]
        refine br_f (by decide) (br_t rfl ?_)
        have hy : yup p = true := by rw [Bool.not_eq_false'] at hz1; exact hz1
        rw [decide_eq_false_iff_not] at hz4 hz5
        have hix := hb1.1 p
        have hol := zr_okM (p := p) (by omega) hb3.2.1 hG h1.2.2.1 hz2 hz3
        have hcp := hb3.2.2.2.2.1 (p * 16 + ix p)
        have hW := (hd p (ix p) hpn (Nat.le_refl _)).1
        have F2 := zr_begF2 (w := (31 * gv (ch (p * 16 + ix p)) + sa s)) (sr := sr) (sa := sa) (d := zd_7 (sr s)) F0 hs hq hpn hy hol (by omega) (by omega)
        have hY : ∀ Q : Int32 → SY → Prop, (∀ b, wY_deliver_34 Q (nI s) 1 (nI n) (nI sc) (nI lm) (nI sv) (nI bg) (nI rl) (zc_N gp) (zc_N gi) (zc_N gx) gv (zc_E gq) (zc_E gf) gr ga (zc_N go) (zc_B gs) (zc_B gm) (zc_B (b)) (zc_B yup) (zc_N ix) (zc_N ic) (zc_N st) un rp dc (zc_N ch) (zc_N en) (zc_B kn) (zc_B fl) (zc_N to) (zc_E sf) sr sa op ol ov) → wpY_deliver Q (nI n, nI sc, nI lm, nI sv, nI bg, nI rl, zc_N gp, zc_N gi, zc_N gx, gv, zc_E gq, zc_E gf, gr, ga, zc_N go, zc_B gs, zc_B gm, zc_B yp, zc_B yup, zc_N ix, zc_N ic, zc_N st, un, rp, dc, zc_N ch, zc_N en, zc_B kn, zc_B fl, zc_N to, zc_E sf, sr, sa, op, ol, ov) (nI s) := by
          intro Q hQ
          unfold wpY_deliver
          refine zy_judge hs hsc.2 hj.2.2.1 hj.2.1 (by omega) hix12 hlm.2 hbg hG (by omega) h1.2.2.1 hb3 hb1.2.2.2 (fun b => ?_)
          rw [hz]
          exact br_f (by decide) (hQ b)
        have hff := zr_ffF F2.2.2.2.2.2.2.2.2.2.2.2.2.2.2.2.1
        have hv2 := F2.2.2.2.2.2.2.2.2.2.2.2.2.2.1
        have hb22 := F2.2.2.1
        refine zx_begin hn.2 hs hsc.2 hq hpn (by omega) (hb1.2.1 p) (by omega) hb2.2.1 hb2.2.2.1 (fun e => ?_) (fun t e ef => ?_) (fun t q e ht eq hlt => ?_)
        · rw [hW]
          refine hY _ (fun b => zy_begin hn.2 hs hsc.2 hj.2.1 hpn (by omega) (by omega) hcp (fun _ => ⟨rfl, zr_mk F2⟩) (fun t' e' => ?_) (fun t' q' e' => ?_))
          · rw [e] at e'; exact absurd e' (by omega)
          · rw [e] at e'; exact absurd e' (by omega)
        · rw [hW]
          refine hY _ (fun b => zy_begin hn.2 hs hsc.2 hj.2.1 hpn (by omega) (by omega) hcp (fun e' => ?_) (fun t' e' ef' => ⟨rfl, zr_mk F2⟩) (fun t' q' e' ht' eq' hlt' => ?_))
          · rw [e] at e'; exact absurd e' (by omega)
          · rw [← hff, ef] at eq'; exact absurd hlt' (by omega)
        · rw [hW]
          refine hY _ (fun b => zy_begin hn.2 hs hsc.2 hj.2.1 hpn (by omega) (by omega) hcp (fun e' => ?_) (fun t' e' ef' => ?_) (fun t' q' e' ht' eq' hlt' => ⟨rfl, ?_⟩))
          · rw [e] at e'; exact absurd e' (by omega)
          · rw [← hff, ← eq] at ef'; exact absurd hlt (by omega)
          · obtain rfl : t' = t := by omega
            obtain rfl : q' = q := by rw [eq, eq', hff]
            have F3 := zr_putF (m := (n + bg) + 1) (t := t') (s := q') (xp' := zv_cp (zc_u (zv_mg (zv_cp xp (128 + s) (64 + (p * 16 + (ix p + 1))) 4) (p * 16 + ix p) (64 + (p * 16 + (ix p + 1))) (p * 16 + (ix p + 1)) 4) ((p * 16 + (ix p + 1)) * 4 + p) (16 * ic p + (ix p + 1) + 1)) (p * 16 + (ix p + 1)) (128 + q') 4) F2 ht (by omega) hlt (zv_cp_b hb22.2.1 _ _ _) (fun x hx => by
              rw [zv_cp_i _ _ _ _ hx]
              have := (hv2 p (ix p + 1) x hpn (by rw [zn_us]; exact Nat.le_refl _) hx).1
              rw [zn_us (f := ch)] at this
              exact this) (fun c x hx hc => zv_cp_o _ hx hc)
            have e3 : zc_s (zc_u gp (n + bg) p) ((n + bg) + 1) = nI p := by
              show nI (zc_u gp (n + bg) p (n + bg)) = nI p
              rw [zn_us]
            rw [e3] at F3
            exact zr_mk F3
      · refine br_f hz1 (br_f hz2 ?_)
        unfold wpY_deliver
        refine zy_judge hs hsc.2 hj.2.2.1 hj.2.1 (by omega) hix12 hlm.2 hbg hG (by omega) h1.2.2.1 hb3 hb1.2.2.2 (fun b => ?_)
        exact br_f hz1 (br_f hz3 ⟨rfl, R b⟩)
end
end
section
/-! notifyStable -/
theorem zf_cnt_not (q : Nat → Bool) : ∀ d i, zf_cnt q d i + zf_cnt (fun j => !q j) d i = d := by
  intro d
  induction d with
  | zero => intro i; rfl
  | succ d ih =>
    intro i
    have := ih (i + 1)
    rw [zf_cnt_s, zf_cnt_s]
    cases hq : q i with
    | true => rw [if_pos rfl, if_neg (by decide)]; omega
    | false => rw [if_neg (by decide), if_pos (by decide)]; omega
theorem zn_uid {f : Nat → Bool} {k : Nat} (h : f k = true) : zc_u f k true = f := by
  funext j
  unfold zc_u
  by_cases hj : j = k
  · rw [if_pos hj, hj, h]
  · rw [if_neg hj]
def zm_I (n N x r : Nat) (gm : Nat → Bool) (gp gi gx en ch : Nat → Nat) (i c : Nat) (xm : Nat → Nat) : Prop := zr_m n N (zm_mk gm ch x r i) xm gp gi gx en ∧ c = zf_cnt (fun j => !gm (ch (x * 16 + j) * 4 + r)) i 0 ∧ ∀ j, xm j ≤ 13
section
variable {n sc lm sv rl bg : Nat} {xup xs gs gm yp yup kn fl : Nat → Bool} {ix ic st xo xp xt en xk xl xm gp gi gx gq gf go ch to sf : Nat → Nat} {un rp dc xv xrs xrr xra xss sr sa op ol ov gv gr ga : Nat → Int32}
variable {P : Nat → Nat → Bool} {D : Nat → Nat → Nat} {k N : Nat}
theorem zm_old {x r i : Nat} (hch : zr_ch n N ix ic ch en gp gi gx P) (hn : n ≤ 4) (hx : x < n) (hr : r < n) (hi : i ≤ ix x) : zm_mk gm ch x r i (ch (x * 16 + i) * 4 + r) = gm (ch (x * 16 + i) * 4 + r) := by
  apply zr_bx
  rw [zm_mk_iff]
  refine ⟨fun h => h.elim id (fun ⟨j, hj, e⟩ => ?_), Or.inl⟩
  have h1 := hch.1 x i hx hi
  have h2 := hch.1 x j hx (by omega)
  have e2 : ch (x * 16 + i) = ch (x * 16 + j) := by omega
  rw [e2] at h1
  omega
theorem zm_It {x r i c : Nat} (hch : zr_ch n N ix ic ch en gp gi gx P) (hn : n ≤ 4) (hx : x < n) (hr : r < n) (hi : i ≤ ix x) (I : zm_I n N x r gm gp gi gx en ch i c xm) (hg : gm (ch (x * 16 + i) * 4 + r) = true) : zm_I n N x r gm gp gi gx en ch (i + 1) c xm := by
  have h0 := zm_old (gm := gm) hch hn hx hr hi
  rw [hg] at h0
  refine ⟨?_, ?_, I.2.2⟩
  · rw [← zm_mk_s, zn_uid h0]; exact I.1
  · rw [zf_cnt_add, zf_cnt_one, Nat.zero_add, hg, if_neg (by decide)]; exact I.2.1
theorem zm_If {x r i c : Nat} (hch : zr_ch n N ix ic ch en gp gi gx P) (hb3 : zr_b3 gp gi gx go ch to) (hn : n ≤ 4) (hiv : zr_iv n N gp gi gx gq gf ic en) (hx : x < n) (hr : r < n) (hrx : x ≠ r) (hi : i ≤ ix x) (hi12 : ix x ≤ 12) (I : zm_I n N x r gm gp gi gx en ch i c xm) (hg : gm (ch (x * 16 + i) * 4 + r) = false) : zm_I n N x r gm gp gi gx en ch (i + 1) (c + 1) (zc_u xm ((r * 4 + x) * 8 + gi (ch (x * 16 + i))) (i + 1)) := by
  have h0 := zm_old (gm := gm) hch hn hx hr hi
  rw [hg] at h0
  have hc := hch.1 x i hx hi
  have hm := I.1
  have h7 := hb3.2.1 (ch (x * 16 + i))
  have hxm : xm ((r * 4 + x) * 8 + gi (ch (x * 16 + i))) ≤ i := by
    have h1 := hm.1 r (ch (x * 16 + i)) hr hc.1 (by rw [hc.2.1]; exact hrx)
    rw [h0, hc.2.1, hc.2.2.1] at h1
    exact Nat.le_of_not_lt (fun h => absurd (h1.mpr h) (by decide))
  have hanc : ∀ w, w < N → gp w = x → gx w ≤ i → (∀ k, gi w ≤ k → k < gi (ch (x * 16 + i)) → gx w ≤ en (x * 8 + k)) → zm_mk gm ch x r (i + 1) (w * 4 + r) = true := by
    intro w hw h1 h2 h3
    have h4 := hch.2.1 w hw (by rw [h1]; omega) (fun k h5 h6 => by
      rw [h1] at h6 ⊢
      rcases Nat.lt_or_ge k (gi (ch (x * 16 + i))) with h8 | h8
      · exact h3 k h5 h8
      · exact Nat.le_trans h2 (hc.2.2.2 k h8 h6))
    rw [h1] at h4
    rw [zm_mk_iff]
    exact Or.inr ⟨gx w, by omega, by rw [h4]⟩
  have hmk : ∀ u r', r' < n → (zm_mk gm ch x r (i + 1) (u * 4 + r') = true ↔ zm_mk gm ch x r i (u * 4 + r') = true ∨ (u = ch (x * 16 + i) ∧ r' = r)) := by
    intro u r' hr'
    rw [← zm_mk_s, zn_ut]
    constructor
    · rintro (h | h)
      · exact Or.inl h
      · exact Or.inr (by omega)
    · rintro (h | ⟨h1, h2⟩)
      · exact Or.inl h
      · exact Or.inr (by rw [h1, h2])
  refine ⟨⟨fun r' u hr' hu hgu => ?_, fun r' u w hr' hu hw h1 h2 h3 h4 => ?_, fun r' x' a hr' hx' hxr' ha h1 => ?_⟩, ?_, zn_ub I.2.2 (by omega)⟩
  · have hu7 := hb3.2.1 u
    have hun := (hiv.1 u hu).1
    rw [hmk u r' hr', hm.1 r' u hr' hu hgu]
    by_cases he : r' = r ∧ gp u = x ∧ gi u = gi (ch (x * 16 + i))
    · obtain ⟨rfl, e2, e3⟩ := he
      rw [e2, e3, zn_us]
      constructor
      · rintro (h | ⟨h, _⟩)
        · omega
        · rw [h, hc.2.2.1]; omega
      · intro h
        have h5 := hanc u hu e2 (by omega) (fun k h6 h8 => absurd h8 (by omega))
        rw [hmk u r' hr', hm.1 r' u hr' hu hgu, e2, e3] at h5
        exact h5
    · rw [zn_un (by omega)]
      refine ⟨fun h => h.elim id (fun ⟨h5, h6⟩ => ?_), Or.inl⟩
      rw [h5] at he
      exact absurd ⟨h6, hc.2.1, rfl⟩ he
  · rcases (hmk u r' hr').mp h3 with h5 | ⟨h5, h6⟩
    · exact (hmk w r' hr').mpr (Or.inl (hm.2.1 r' u w hr' hu hw h1 h2 h5 h4))
    · subst h6
      rw [h5] at h1 h4
      rw [hc.2.1] at h1 h4
      rw [hc.2.2.1] at h4
      exact hanc w hw h1 h4.2.1 (fun k h6 h8 => h4.2.2 k h6 h8)
  · by_cases he : (r' * 4 + x') * 8 + a = (r * 4 + x) * 8 + gi (ch (x * 16 + i))
    · obtain ⟨rfl, rfl, rfl⟩ : r' = r ∧ x' = x ∧ a = gi (ch (x * 16 + i)) := by omega
      exact ⟨ch (x' * 16 + i), hc.1, hc.2.1, rfl, by rw [zn_us, hc.2.2.1]⟩
    · rw [zn_un he] at h1 ⊢
      exact hm.2.2 r' x' a hr' hx' hxr' ha h1
  · rw [zf_cnt_add, zf_cnt_one, Nat.zero_add, hg, if_pos (by decide), ← I.2.1]
theorem zx_note_l {post : Int32 → SX → Prop} {x r : Nat} (hb2 : ∀ j, xp j ≤ 128) (hch : zr_ch n N ix ic ch en gp gi gx P) (hb3 : zr_b3 gp gi gx go ch to) (hn : n ≤ 4) (hiv : zr_iv n N gp gi gx gq gf ic en) (hD : zr_D n N gp gi gx en P D) (hv : zr_v n ix ch gf xp D) (hx : x < n) (hr : r < n) (hrx : x ≠ r) (hst : st x ≤ ix x) (hi12 : ix x ≤ 12) (hp : ∀ c (xm' : Nat → Nat), zm_I n N x r gm gp gi gx en ch (st x + 1) c xm' → post (nI c) (nI n, nI sc, nI lm, nI sv, nI rl, nI bg, zc_B xup, zc_N ix, zc_N ic, zc_N st, un, rp, dc, xv, zc_B xs, zc_N xo, xrs, xrr, xra, zc_O xp, zc_O xt, xss, sr, sa, zc_N en, zc_N xk, zc_N xl, zc_E (xm'), op, ol, ov)) : ∀ d i c (xm : Nat → Nat), c ≤ i → i + d = st x + 1 → zm_I n N x r gm gp gi gx en ch i c xm → wX_notifyStable_57 post (nI x) (nI r) (nI (st x)) (nI n) (nI sc) (nI lm) (nI sv) (nI rl) (nI bg) (d + 1) (nI c) (nI i) (zc_B xup) (zc_N ix) (zc_N ic) (zc_N st) un rp dc xv (zc_B xs) (zc_N xo) xrs xrr xra (zc_O xp) (zc_O xt) xss sr sa (zc_N en) (zc_N xk) (zc_N xl) (zc_E xm) op ol ov := by
  intro d
  induction d with
  | zero =>
    intro i c xm hc h I
    obtain rfl : i = st x + 1 := by omega
    exact br_t (nI_lt (by omega) (by omega)) (hp c xm I)
  | succ d ih =>
    intro i c xm hc h I
    have h0 := hch.1 x i hx (by omega)
    have h1 := hD.2.2.2 _ h0.1
    rw [h0.2.1, h0.2.2.1] at h1
    have e := (hv x i x hx (by omega) (by omega)).1
    rw [h1] at e
    have h7 := hb3.2.1 (ch (x * 16 + i))
    have h2 := I.1.1 r (ch (x * 16 + i)) hr h0.1 (by rw [h0.2.1]; exact hrx)
    rw [h0.2.1, h0.2.2.1, zm_old (gm := gm) hch hn hx hr (by omega)] at h2
    have d1 : (16 * gi (ch (x * 16 + i)) + i) / 16 = gi (ch (x * 16 + i)) := by omega
    have d2 : (16 * gi (ch (x * 16 + i)) + i) % 16 = i := by omega
    rw [wX_notifyStable_57]
    simp (disch := omega) only [zn_k4, zn_k8, zn_k16, zn_k32, zn_m16, zn_a64, zn_a128, nI_add, nI_1, nI_clamp, vp_in_nI, true_and, and_true, forall_eq, zn_rN, zn_rB, zn_rO, zn_rE, zn_vb0, zn_vb1, zn_b1, zn_b0, zn_d1, zn_d0, zn_e1, zn_e0, zn_wN, zn_wB1, zn_wB0, zn_wO, zn_wOd, zn_wO0, zn_wE, zn_wEe, zn_wE0, zn_leT, zn_leF, zn_ltT, zn_ltF, zn_eqF, zn_eqT, zn_lt0, zn_0le, zn_d2a, zn_d2b, zn_e1a, zn_e1b, zn_10, zn_00, zn_sh4, zn_an15, true_imp_iff, false_imp_iff, imp_true_iff, not_true_eq_false, not_false_eq_true, zn_gT4, zn_gF4, zn_gT8, zn_gF8, zn_gT12, zn_gF12, zn_gT48, zn_gF48, zn_gT124, zn_gF124, zn_gT128, zn_gF128, zn_gT560, zn_gF560, zn_lT7, zn_lF7, zn_lT120, zn_lF120, zn_qT7, zn_qF7, zn_qT120, zn_qF120, zn_qT0, zn_qF0, zn_qT1, zn_qF1, zn_hT0, zn_hF0, zn_hT7, zn_hF7, zn_sb, pk_us, zn_us, e]
    refine zx_marked (by omega) (by omega) (by omega) I.2.2 ?_
    rw [d1, d2]
    cases hg : gm (ch (x * 16 + i) * 4 + r) with
    | true =>
      rw [decide_eq_true (h2.mp hg)]
      simp (disch := omega) only [zn_k4, zn_k8, zn_k16, zn_k32, zn_m16, zn_a64, zn_a128, nI_add, nI_1, nI_clamp, vp_in_nI, true_and, and_true, forall_eq, zn_rN, zn_rB, zn_rO, zn_rE, zn_vb0, zn_vb1, zn_b1, zn_b0, zn_d1, zn_d0, zn_e1, zn_e0, zn_wN, zn_wB1, zn_wB0, zn_wO, zn_wOd, zn_wO0, zn_wE, zn_wEe, zn_wE0, zn_leT, zn_leF, zn_ltT, zn_ltF, zn_eqF, zn_eqT, zn_lt0, zn_0le, zn_d2a, zn_d2b, zn_e1a, zn_e1b, zn_10, zn_00, zn_sh4, zn_an15, true_imp_iff, false_imp_iff, imp_true_iff, not_true_eq_false, not_false_eq_true, zn_gT4, zn_gF4, zn_gT8, zn_gF8, zn_gT12, zn_gF12, zn_gT48, zn_gF48, zn_gT124, zn_gF124, zn_gT128, zn_gF128, zn_gT560, zn_gF560, zn_lT7, zn_lF7, zn_lT120, zn_lF120, zn_qT7, zn_qF7, zn_qT120, zn_qF120, zn_qT0, zn_qF0, zn_qT1, zn_qF1, zn_hT0, zn_hF0, zn_hT7, zn_hF7, zn_sb, pk_us, zn_us]
      exact ih (i + 1) c xm (by omega) (by omega) (zm_It hch hn hx hr (by omega) I hg)
    | false =>
      rw [hg] at h2
      rw [decide_eq_false (fun z => absurd (h2.mpr z) (by decide))]
      simp (disch := omega) only [zn_k4, zn_k8, zn_k16, zn_k32, zn_m16, zn_a64, zn_a128, nI_add, nI_1, nI_clamp, vp_in_nI, true_and, and_true, forall_eq, zn_rN, zn_rB, zn_rO, zn_rE, zn_vb0, zn_vb1, zn_b1, zn_b0, zn_d1, zn_d0, zn_e1, zn_e0, zn_wN, zn_wB1, zn_wB0, zn_wO, zn_wOd, zn_wO0, zn_wE, zn_wEe, zn_wE0, zn_leT, zn_leF, zn_ltT, zn_ltF, zn_eqF, zn_eqT, zn_lt0, zn_0le, zn_d2a, zn_d2b, zn_e1a, zn_e1b, zn_10, zn_00, zn_sh4, zn_an15, true_imp_iff, false_imp_iff, imp_true_iff, not_true_eq_false, not_false_eq_true, zn_gT4, zn_gF4, zn_gT8, zn_gF8, zn_gT12, zn_gF12, zn_gT48, zn_gF48, zn_gT124, zn_gF124, zn_gT128, zn_gF128, zn_gT560, zn_gF560, zn_lT7, zn_lF7, zn_lT120, zn_lF120, zn_qT7, zn_qF7, zn_qT120, zn_qF120, zn_qT0, zn_qF0, zn_qT1, zn_qF1, zn_hT0, zn_hF0, zn_hT7, zn_hF7, zn_sb, pk_us, zn_us, d1]
      exact ih (i + 1) (c + 1) _ (by omega) (by omega) (zm_If hch hb3 hn hiv hx hr hrx (by omega) hi12 I hg)
theorem zr_noteF {x r c : Nat} {xm' : Nat → Nat} (F : zr_F n sc lm sv rl bg ix ic st en xo xp xt xk xl xm gp gi gx go ch to gq gf sf xup yup kn fl xs gs gm gv gr ga xv xrs xrr xra xss P D) (hx : x < n) (hr : r < n) (hrx : x ≠ r) (I : zm_I n (n + bg) x r gm gp gi gx en ch (st x + 1) c xm') : zr_F n sc lm sv rl bg ix ic st en xo xp xt xk xl (xm') gp gi gx go ch to gq gf sf xup yup kn fl xs gs (zm_mk gm ch x r (st x + 1)) gv gr ga xv xrs xrr xra xss P D := by
  obtain ⟨hnum, hb1, hb2, hb3, hup, hk1, hk2, hG, hiv, hD, hcur, hch, hK, hv, hd, hsl, hm, hsm, hfr, hsv⟩ := F
  have hn4 := hnum.1.2
  have hst := hb1.2.2.1 x
  refine ⟨hnum, hb1, ⟨hb2.1, hb2.2.1, hb2.2.2.1, hb2.2.2.2.1, hb2.2.2.2.2.1, I.2.2⟩, hb3, hup, hk1, hk2, hG, hiv, hD, hcur, hch, hK, hv, hd, hsl, I.1, fun q i hq hi => ?_, fun u hu => ?_, hsv⟩
  · rw [zm_mk_iff]
    have h0 := hch.1 q i hq hi
    refine ⟨fun h => h.elim (fun h => (hsm q i hq hi).mp h) (fun ⟨j, hj, e⟩ => ?_), fun h => Or.inl ((hsm q i hq hi).mpr h)⟩
    have h1 := hch.1 x j hx (by omega)
    obtain ⟨e1, e2⟩ : ch (q * 16 + i) = ch (x * 16 + j) ∧ q = r := by omega
    rw [e1] at h0
    omega
  · have h3 := hfr u hu
    refine ⟨h3.1, h3.2.1, fun r' hr' => ?_⟩
    cases hg : zm_mk gm ch x r (st x + 1) (u * 4 + r') with
    | false => rfl
    | true =>
      rcases (zm_mk_iff _ _ _ _ _ _).mp hg with h4 | ⟨i, hi, e⟩
      · rw [h3.2.2 r' hr'] at h4; exact absurd h4 (by decide)
      · have h5 := (hch.1 x i hx (by omega)).1
        omega
/-- what the two counts of marks differ by -/
theorem zm_cnt {x r : Nat} (hch : zr_ch n N ix ic ch en gp gi gx P) (hn : n ≤ 4) (hx : x < n) (hr : r < n) (hst : st x ≤ ix x) : zf_cnt (fun j => zm_mk gm ch x r (st x + 1) (ch (x * 16 + j) * 4 + r)) (ix x + 1) 0 = zf_cnt (fun j => gm (ch (x * 16 + j) * 4 + r)) (ix x + 1) 0 + zf_cnt (fun j => !gm (ch (x * 16 + j) * 4 + r)) (st x + 1) 0 := by
  have e := zf_cnt_not (fun j => gm (ch (x * 16 + j) * 4 + r)) (st x + 1) 0
  rw [show ix x + 1 = (st x + 1) + (ix x - st x) by omega, zf_cnt_add _ (st x + 1) (ix x - st x) 0, zf_cnt_add _ (st x + 1) (ix x - st x) 0, zf_cnt_all (fun j => zm_mk gm ch x r (st x + 1) (ch (x * 16 + j) * 4 + r)) (st x + 1) 0 (fun j _ hj => by
    rw [zm_mk_iff]
    exact Or.inr ⟨j, by omega, rfl⟩)]
  rw [zf_cnt_cg (q := fun j => zm_mk gm ch x r (st x + 1) (ch (x * 16 + j) * 4 + r)) (q' := fun j => gm (ch (x * 16 + j) * 4 + r)) (ix x - st x) (0 + (st x + 1)) (fun j h1 h2 => zr_bx (by
    rw [zm_mk_iff]
    refine ⟨fun h => h.elim id (fun ⟨i, hi, e2⟩ => ?_), Or.inl⟩
    have h3 := hch.1 x i hx (by omega)
    have h4 := hch.1 x j hx (by omega)
    have e3 : ch (x * 16 + j) = ch (x * 16 + i) := by omega
    rw [e3] at h4
    omega))]
  omega
theorem zt_notifyStable {v1 v2 : Int32} (F : zr_F n sc lm sv rl bg ix ic st en xo xp xt xk xl xm gp gi gx go ch to gq gf sf xup yup kn fl xs gs gm gv gr ga xv xrs xrr xra xss P D) : wpX_notifyStable (fun r u' => wpY_notifyStable (fun r' v' => r' = r ∧ i_Rel (k + 4) u' v') (nI n, nI sc, nI lm, nI sv, nI bg, nI rl, zc_N gp, zc_N gi, zc_N gx, gv, zc_E gq, zc_E gf, gr, ga, zc_N go, zc_B gs, zc_B gm, zc_B yp, zc_B yup, zc_N ix, zc_N ic, zc_N st, un, rp, dc, zc_N ch, zc_N en, zc_B kn, zc_B fl, zc_N to, zc_E sf, sr, sa, op, ol, ov) v1 v2) (nI n, nI sc, nI lm, nI sv, nI rl, nI bg, zc_B xup, zc_N ix, zc_N ic, zc_N st, un, rp, dc, xv, zc_B xs, zc_N xo, xrs, xrr, xra, zc_O xp, zc_O xt, xss, sr, sa, zc_N en, zc_N xk, zc_N xl, zc_E xm, op, ol, ov) v1 v2 := by
  have R : i_Rel (k + 4) (nI n, nI sc, nI lm, nI sv, nI rl, nI bg, zc_B xup, zc_N ix, zc_N ic, zc_N st, un, rp, dc, xv, zc_B xs, zc_N xo, xrs, xrr, xra, zc_O xp, zc_O xt, xss, sr, sa, zc_N en, zc_N xk, zc_N xl, zc_E xm, op, ol, ov) (nI n, nI sc, nI lm, nI sv, nI bg, nI rl, zc_N gp, zc_N gi, zc_N gx, gv, zc_E gq, zc_E gf, gr, ga, zc_N go, zc_B gs, zc_B gm, zc_B yp, zc_B yup, zc_N ix, zc_N ic, zc_N st, un, rp, dc, zc_N ch, zc_N en, zc_B kn, zc_B fl, zc_N to, zc_E sf, sr, sa, op, ol, ov) := zr_mk F
  have F0 := F
  obtain ⟨hnum, hb1, hb2, hb3, hup, hk1, hk2, hG, hiv, hD, hcur, hch, hK, hv, hd, hsl, hm, hsm, hfr, hsv⟩ := F
  obtain ⟨hn, hsc, hlm, hsvn, hrl, hbg⟩ := hnum
  have hix12 : ∀ j, ix j ≤ 12 := fun j => Nat.le_trans (hb1.1 j) hlm.2
  have hst12 : ∀ j, st j ≤ 12 := fun j => Nat.le_trans (hb1.2.2.1 j) (hix12 j)
  unfold wpX_notifyStable wpY_notifyStable wpX_isProcess wpY_isProcess
  rcases pk_ix v1 (n := n) (by omega) with h | h | ⟨x, hx, rfl⟩
  · simp (disch := omega) only [zn_k4, zn_k8, zn_k16, zn_k32, zn_m16, zn_a64, zn_a128, nI_add, nI_1, nI_clamp, vp_in_nI, true_and, and_true, forall_eq, zn_rN, zn_rB, zn_rO, zn_rE, zn_vb0, zn_vb1, zn_b1, zn_b0, zn_d1, zn_d0, zn_e1, zn_e0, zn_wN, zn_wB1, zn_wB0, zn_wO, zn_wOd, zn_wO0, zn_wE, zn_wEe, zn_wE0, zn_leT, zn_leF, zn_ltT, zn_ltF, zn_eqF, zn_eqT, zn_lt0, zn_0le, zn_d2a, zn_d2b, zn_e1a, zn_e1b, zn_10, zn_00, zn_sh4, zn_an15, true_imp_iff, false_imp_iff, imp_true_iff, not_true_eq_false, not_false_eq_true, zn_gT4, zn_gF4, zn_gT8, zn_gF8, zn_gT12, zn_gF12, zn_gT48, zn_gF48, zn_gT124, zn_gF124, zn_gT128, zn_gF128, zn_gT560, zn_gF560, zn_lT7, zn_lF7, zn_lT120, zn_lF120, zn_qT7, zn_qF7, zn_qT120, zn_qF120, zn_qT0, zn_qF0, zn_qT1, zn_qF1, zn_hT0, zn_hF0, zn_hT7, zn_hF7, zn_sb, pk_us, zn_us, h]
    first | exact ⟨rfl, R⟩ | exact R
  · simp (disch := omega) only [zn_k4, zn_k8, zn_k16, zn_k32, zn_m16, zn_a64, zn_a128, nI_add, nI_1, nI_clamp, vp_in_nI, true_and, and_true, forall_eq, zn_rN, zn_rB, zn_rO, zn_rE, zn_vb0, zn_vb1, zn_b1, zn_b0, zn_d1, zn_d0, zn_e1, zn_e0, zn_wN, zn_wB1, zn_wB0, zn_wO, zn_wOd, zn_wO0, zn_wE, zn_wEe, zn_wE0, zn_leT, zn_leF, zn_ltT, zn_ltF, zn_eqF, zn_eqT, zn_lt0, zn_0le, zn_d2a, zn_d2b, zn_e1a, zn_e1b, zn_10, zn_00, zn_sh4, zn_an15, true_imp_iff, false_imp_iff, imp_true_iff, not_true_eq_false, not_false_eq_true, zn_gT4, zn_gF4, zn_gT8, zn_gF8, zn_gT12, zn_gF12, zn_gT48, zn_gF48, zn_gT124, zn_gF124, zn_gT128, zn_gF128, zn_gT560, zn_gF560, zn_lT7, zn_lF7, zn_lT120, zn_lF120, zn_qT7, zn_qF7, zn_qT120, zn_qF120, zn_qT0, zn_qF0, zn_qT1, zn_qF1, zn_hT0, zn_hF0, zn_hT7, zn_hF7, zn_sb, pk_us, zn_us, h, zr_nn h (by omega)]
    first | exact ⟨rfl, R⟩ | exact R
  · rcases pk_ix v2 (n := n) (by omega) with h' | h' | ⟨r, hr, rfl⟩
    · simp (disch := omega) only [zn_k4, zn_k8, zn_k16, zn_k32, zn_m16, zn_a64, zn_a128, nI_add, nI_1, nI_clamp, vp_in_nI, true_and, and_true, forall_eq, zn_rN, zn_rB, zn_rO, zn_rE, zn_vb0, zn_vb1, zn_b1, zn_b0, zn_d1, zn_d0, zn_e1, zn_e0, zn_wN, zn_wB1, zn_wB0, zn_wO, zn_wOd, zn_wO0, zn_wE, zn_wEe, zn_wE0, zn_leT, zn_leF, zn_ltT, zn_ltF, zn_eqF, zn_eqT, zn_lt0, zn_0le, zn_d2a, zn_d2b, zn_e1a, zn_e1b, zn_10, zn_00, zn_sh4, zn_an15, true_imp_iff, false_imp_iff, imp_true_iff, not_true_eq_false, not_false_eq_true, zn_gT4, zn_gF4, zn_gT8, zn_gF8, zn_gT12, zn_gF12, zn_gT48, zn_gF48, zn_gT124, zn_gF124, zn_gT128, zn_gF128, zn_gT560, zn_gF560, zn_lT7, zn_lF7, zn_lT120, zn_lF120, zn_qT7, zn_qF7, zn_qT120, zn_qF120, zn_qT0, zn_qF0, zn_qT1, zn_qF1, zn_hT0, zn_hF0, zn_hT7, zn_hF7, zn_sb, pk_us, zn_us, h']
      first | exact ⟨rfl, R⟩ | exact R
    · simp (disch := omega) only [zn_k4, zn_k8, zn_k16, zn_k32, zn_m16, zn_a64, zn_a128, nI_add, nI_1, nI_clamp, vp_in_nI, true_and, and_true, forall_eq, zn_rN, zn_rB, zn_rO, zn_rE, zn_vb0, zn_vb1, zn_b1, zn_b0, zn_d1, zn_d0, zn_e1, zn_e0, zn_wN, zn_wB1, zn_wB0, zn_wO, zn_wOd, zn_wO0, zn_wE, zn_wEe, zn_wE0, zn_leT, zn_leF, zn_ltT, zn_ltF, zn_eqF, zn_eqT, zn_lt0, zn_0le, zn_d2a, zn_d2b, zn_e1a, zn_e1b, zn_10, zn_00, zn_sh4, zn_an15, true_imp_iff, false_imp_iff, imp_true_iff, not_true_eq_false, not_false_eq_true, zn_gT4, zn_gF4, zn_gT8, zn_gF8, zn_gT12, zn_gF12, zn_gT48, zn_gF48, zn_gT124, zn_gF124, zn_gT128, zn_gF128, zn_gT560, zn_gF560, zn_lT7, zn_lF7, zn_lT120, zn_lF120, zn_qT7, zn_qF7, zn_qT120, zn_qF120, zn_qT0, zn_qF0, zn_qT1, zn_qF1, zn_hT0, zn_hF0, zn_hT7, zn_hF7, zn_sb, pk_us, zn_us, h', zr_nn h' (by omega)]
      first | exact ⟨rfl, R⟩ | exact R
    · by_cases hrx : x = r
      · simp (disch := omega) only [zn_k4, zn_k8, zn_k16, zn_k32, zn_m16, zn_a64, zn_a128, nI_add, nI_1, nI_clamp, vp_in_nI, true_and, and_true, forall_eq, zn_rN, zn_rB, zn_rO, zn_rE, zn_vb0, zn_vb1, zn_b1, zn_b0, zn_d1, zn_d0, zn_e1, zn_e0, zn_wN, zn_wB1, zn_wB0, zn_wO, zn_wOd, zn_wO0, zn_wE, zn_wEe, zn_wE0, zn_leT, zn_leF, zn_ltT, zn_ltF, zn_eqF, zn_eqT, zn_lt0, zn_0le, zn_d2a, zn_d2b, zn_e1a, zn_e1b, zn_10, zn_00, zn_sh4, zn_an15, true_imp_iff, false_imp_iff, imp_true_iff, not_true_eq_false, not_false_eq_true, zn_gT4, zn_gF4, zn_gT8, zn_gF8, zn_gT12, zn_gF12, zn_gT48, zn_gF48, zn_gT124, zn_gF124, zn_gT128, zn_gF128, zn_gT560, zn_gF560, zn_lT7, zn_lF7, zn_lT120, zn_lF120, zn_qT7, zn_qF7, zn_qT120, zn_qF120, zn_qT0, zn_qF0, zn_qT1, zn_qF1, zn_hT0, zn_hF0, zn_hT7, zn_hF7, zn_sb, pk_us, zn_us, hrx]
        first | exact ⟨rfl, R⟩ | exact R
      · have hux := (hup x hx).1
        have hur := (hup r hr).1
        cases hy : yup x with
        | false =>
          rw [hy] at hux
          simp (disch := omega) only [zn_k4, zn_k8, zn_k16, zn_k32, zn_m16, zn_a64, zn_a128, nI_add, nI_1, nI_clamp, vp_in_nI, true_and, and_true, forall_eq, zn_rN, zn_rB, zn_rO, zn_rE, zn_vb0, zn_vb1, zn_b1, zn_b0, zn_d1, zn_d0, zn_e1, zn_e0, zn_wN, zn_wB1, zn_wB0, zn_wO, zn_wOd, zn_wO0, zn_wE, zn_wEe, zn_wE0, zn_leT, zn_leF, zn_ltT, zn_ltF, zn_eqF, zn_eqT, zn_lt0, zn_0le, zn_d2a, zn_d2b, zn_e1a, zn_e1b, zn_10, zn_00, zn_sh4, zn_an15, true_imp_iff, false_imp_iff, imp_true_iff, not_true_eq_false, not_false_eq_true, zn_gT4, zn_gF4, zn_gT8, zn_gF8, zn_gT12, zn_gF12, zn_gT48, zn_gF48, zn_gT124, zn_gF124, zn_gT128, zn_gF128, zn_gT560, zn_gF560, zn_lT7, zn_lF7, zn_lT120, zn_lF120, zn_qT7, zn_qF7, zn_qT120, zn_qF120, zn_qT0, zn_qF0, zn_qT1, zn_qF1, zn_hT0, zn_hF0, zn_hT7, zn_hF7, zn_sb, pk_us, zn_us, hux, hy]
          first | exact ⟨rfl, R⟩ | exact R
        | true =>
          rw [hy] at hux
          cases hz : yup r with
          | false =>
            rw [hz] at hur
            simp (disch := omega) only [zn_k4, zn_k8, zn_k16, zn_k32, zn_m16, zn_a64, zn_a128, nI_add, nI_1, nI_clamp, vp_in_nI, true_and, and_true, forall_eq, zn_rN, zn_rB, zn_rO, zn_rE, zn_vb0, zn_vb1, zn_b1, zn_b0, zn_d1, zn_d0, zn_e1, zn_e0, zn_wN, zn_wB1, zn_wB0, zn_wO, zn_wOd, zn_wO0, zn_wE, zn_wEe, zn_wE0, zn_leT, zn_leF, zn_ltT, zn_ltF, zn_eqF, zn_eqT, zn_lt0, zn_0le, zn_d2a, zn_d2b, zn_e1a, zn_e1b, zn_10, zn_00, zn_sh4, zn_an15, true_imp_iff, false_imp_iff, imp_true_iff, not_true_eq_false, not_false_eq_true, zn_gT4, zn_gF4, zn_gT8, zn_gF8, zn_gT12, zn_gF12, zn_gT48, zn_gF48, zn_gT124, zn_gF124, zn_gT128, zn_gF128, zn_gT560, zn_gF560, zn_lT7, zn_lF7, zn_lT120, zn_lF120, zn_qT7, zn_qF7, zn_qT120, zn_qF120, zn_qT0, zn_qF0, zn_qT1, zn_qF1, zn_hT0, zn_hF0, zn_hT7, zn_hF7, zn_sb, pk_us, zn_us, hux, hy, hur, hz]
            first | exact ⟨rfl, R⟩ | exact R
          | true =>
            rw [hz] at hur
            have hi := hix12 x
            have hs := hb1.2.2.1 x
            simp (disch := omega) only [zn_k4, zn_k8, zn_k16, zn_k32, zn_m16, zn_a64, zn_a128, nI_add, nI_1, nI_clamp, vp_in_nI, true_and, and_true, forall_eq, zn_rN, zn_rB, zn_rO, zn_rE, zn_vb0, zn_vb1, zn_b1, zn_b0, zn_d1, zn_d0, zn_e1, zn_e0, zn_wN, zn_wB1, zn_wB0, zn_wO, zn_wOd, zn_wO0, zn_wE, zn_wEe, zn_wE0, zn_leT, zn_leF, zn_ltT, zn_ltF, zn_eqF, zn_eqT, zn_lt0, zn_0le, zn_d2a, zn_d2b, zn_e1a, zn_e1b, zn_10, zn_00, zn_sh4, zn_an15, true_imp_iff, false_imp_iff, imp_true_iff, not_true_eq_false, not_false_eq_true, zn_gT4, zn_gF4, zn_gT8, zn_gF8, zn_gT12, zn_gF12, zn_gT48, zn_gF48, zn_gT124, zn_gF124, zn_gT128, zn_gF128, zn_gT560, zn_gF560, zn_lT7, zn_lF7, zn_lT120, zn_lF120, zn_qT7, zn_qF7, zn_qT120, zn_qF120, zn_qT0, zn_qF0, zn_qT1, zn_qF1, zn_hT0, zn_hF0, zn_hT7, zn_hF7, zn_sb, pk_us, zn_us, hux, hy, hur, hz]
            refine ⟨st x + 2, zx_note_l (gm := gm) hb2.2.1 hch hb3 hn.2 hiv hD hv hx hr hrx hs hi (fun c xm' I => ?_) (st x + 1) 0 0 xm (by omega) (by omega) ⟨hm, rfl, hb2.2.2.2.2.2⟩⟩
            refine zy_seen hr hx hn.2 hix12 hb3.2.2.2.2.1 ?_
            refine ⟨st x + 2, zy_note_l hx hr hn.2 hix12 hst12 hb3.2.2.2.2.1 ?_ (st x + 1) 0 (by omega)⟩
            rw [zm_cnt hch hn.2 hx hr hs, pk_sub (by omega), Nat.add_sub_cancel_left, ← I.2.1]
            exact ⟨rfl, zr_mk (zr_noteF F0 hx hr hrx I)⟩
end
end
section
/-! commit -/
section
variable {n sc lm sv rl bg : Nat} {xup xs gs gm yp yup kn fl : Nat → Bool} {ix ic st xo xp xt en xk xl xm gp gi gx gq gf go ch to sf : Nat → Nat} {un rp dc xv xrs xrr xra xss sr sa op ol ov gv gr ga : Nat → Int32}
variable {P : Nat → Nat → Bool} {D : Nat → Nat → Nat} {k N : Nat}
theorem zr_rlF {e : Nat} (F : zr_F n sc lm sv rl bg ix ic st en xo xp xt xk xl xm gp gi gx go ch to gq gf sf xup yup kn fl xs gs gm gv gr ga xv xrs xrr xra xss P D) (he : e ≤ 48) : zr_F n sc lm sv (e) bg ix ic st en xo xp xt xk xl xm gp gi gx go ch to gq gf sf xup yup kn fl xs gs gm gv gr ga xv xrs xrr xra xss P D := by
  obtain ⟨hnum, h⟩ := F
  exact ⟨⟨hnum.1, hnum.2.1, hnum.2.2.1, hnum.2.2.2.1, he, hnum.2.2.2.2.2⟩, h⟩
theorem zx_release {post : SX → Prop} {r v l : Nat} (hr : r < 4) (hv : v < 64) (hrl : rl < 48) (hl : xp (v * 4 + r) = l + 1) (hp : post (nI n, nI sc, nI lm, nI sv, nI (rl + 1), nI bg, zc_B xup, zc_N ix, zc_N ic, zc_N st, un, rp, dc, xv, zc_B xs, zc_N (zc_u xo v 2), xrs, xrr, xra, zc_O xp, zc_O xt, xss, sr, sa, zc_N en, zc_N xk, zc_N xl, zc_E xm, (upd op rl (nI r)), (upd ol rl (nI l)), (upd ov rl (xv v)))) : wpX_release post (nI n, nI sc, nI lm, nI sv, nI rl, nI bg, zc_B xup, zc_N ix, zc_N ic, zc_N st, un, rp, dc, xv, zc_B xs, zc_N xo, xrs, xrr, xra, zc_O xp, zc_O xt, xss, sr, sa, zc_N en, zc_N xk, zc_N xl, zc_E xm, op, ol, ov) (nI r) (nI v) := by
  unfold wpX_release
  have e2 : upd (zc_N xo) v 2 = zc_N (zc_u xo v 2) := zn_wN xo v 2
  simp (disch := omega) only [zn_k4, zn_k8, zn_k16, zn_k32, zn_m16, zn_a64, zn_a128, nI_add, nI_1, nI_clamp, vp_in_nI, true_and, and_true, forall_eq, zn_rN, zn_rB, zn_rO, zn_rE, zn_vb0, zn_vb1, zn_b1, zn_b0, zn_d1, zn_d0, zn_e1, zn_e0, zn_wN, zn_wB1, zn_wB0, zn_wO, zn_wOd, zn_wO0, zn_wE, zn_wEe, zn_wE0, zn_leT, zn_leF, zn_ltT, zn_ltF, zn_eqF, zn_eqT, zn_lt0, zn_0le, zn_d2a, zn_d2b, zn_e1a, zn_e1b, zn_10, zn_00, zn_sh4, zn_an15, true_imp_iff, false_imp_iff, imp_true_iff, not_true_eq_false, not_false_eq_true, zn_gT4, zn_gF4, zn_gT8, zn_gF8, zn_gT12, zn_gF12, zn_gT48, zn_gF48, zn_gT124, zn_gF124, zn_gT128, zn_gF128, zn_gT560, zn_gF560, zn_lT7, zn_lF7, zn_lT120, zn_lF120, zn_qT7, zn_qF7, zn_qT120, zn_qF120, zn_qT0, zn_qF0, zn_qT1, zn_qF1, zn_hT0, zn_hF0, zn_hT7, zn_hF7, zn_sb, pk_us, zn_us, hl, e2]
  exact hp
theorem zy_ctail {post : Int32 → SY → Prop} {r c : Nat} (F : zr_F n sc lm sv rl bg ix ic st en xo xp xt xk xl xm gp gi gx go ch to gq gf sf xup yup kn fl xs gs gm gv gr ga xv xrs xrr xra xss P D) (hr : r < n) (hp : ∀ b : Nat → Bool, post (nI c) (nI n, nI sc, nI lm, nI sv, nI bg, nI rl, zc_N gp, zc_N gi, zc_N gx, gv, zc_E gq, zc_E gf, gr, ga, zc_N go, zc_B gs, zc_B gm, zc_B (b), zc_B yup, zc_N ix, zc_N ic, zc_N st, un, rp, dc, zc_N ch, zc_N en, zc_B kn, zc_B fl, zc_N to, zc_E sf, sr, sa, op, ol, ov)) : ∀ e i (yp : Nat → Bool), st r < i → i + e = ix r + 1 → wY_commit_26 post (nI r) (e + 1) (nI c) (nI i) (nI n) (nI sc) (nI lm) (nI sv) (nI bg) (nI rl) (zc_N gp) (zc_N gi) (zc_N gx) gv (zc_E gq) (zc_E gf) gr ga (zc_N go) (zc_B gs) (zc_B gm) (zc_B yp) (zc_B yup) (zc_N ix) (zc_N ic) (zc_N st) un rp dc (zc_N ch) (zc_N en) (zc_B kn) (zc_B fl) (zc_N to) (zc_E sf) sr sa op ol ov := by
  obtain ⟨hnum, hb1, hb2, hb3, hup, hk1, hk2, hG, hiv, hD, hcur, hch, hK, hv, hd, hsl, hm, hsm, hfr, hsv⟩ := F
  obtain ⟨hn, hsc, hlm, hsvn, hrl, hbg⟩ := hnum
  have hix := hb1.1 r
  intro e
  induction e with
  | zero =>
    intro i yp hi h
    rw [wY_commit_26]
    simp (disch := omega) only [zn_k4, zn_k8, zn_k16, zn_k32, zn_m16, zn_a64, zn_a128, nI_add, nI_1, nI_clamp, vp_in_nI, true_and, and_true, forall_eq, zn_rN, zn_rB, zn_rO, zn_rE, zn_vb0, zn_vb1, zn_b1, zn_b0, zn_d1, zn_d0, zn_e1, zn_e0, zn_wN, zn_wB1, zn_wB0, zn_wO, zn_wOd, zn_wO0, zn_wE, zn_wEe, zn_wE0, zn_leT, zn_leF, zn_ltT, zn_ltF, zn_eqF, zn_eqT, zn_lt0, zn_0le, zn_d2a, zn_d2b, zn_e1a, zn_e1b, zn_10, zn_00, zn_sh4, zn_an15, true_imp_iff, false_imp_iff, imp_true_iff, not_true_eq_false, not_false_eq_true, zn_gT4, zn_gF4, zn_gT8, zn_gF8, zn_gT12, zn_gF12, zn_gT48, zn_gF48, zn_gT124, zn_gF124, zn_gT128, zn_gF128, zn_gT560, zn_gF560, zn_lT7, zn_lF7, zn_lT120, zn_lF120, zn_qT7, zn_qF7, zn_qT120, zn_qF120, zn_qT0, zn_qF0, zn_qT1, zn_qF1, zn_hT0, zn_hF0, zn_hT7, zn_hF7, zn_sb, pk_us, zn_us]
    exact hp yp
  | succ e ih =>
    intro i yp hi h
    have hc := hch.1 r i hr (by omega)
    have ho := hb3.2.2.2.1 (ch (r * 16 + i))
    rw [wY_commit_26]
    by_cases hq : go (ch (r * 16 + i)) = 1
    · by_cases h48 : 48 ≤ rl
      · simp (disch := omega) only [zn_k4, zn_k8, zn_k16, zn_k32, zn_m16, zn_a64, zn_a128, nI_add, nI_1, nI_clamp, vp_in_nI, true_and, and_true, forall_eq, zn_rN, zn_rB, zn_rO, zn_rE, zn_vb0, zn_vb1, zn_b1, zn_b0, zn_d1, zn_d0, zn_e1, zn_e0, zn_wN, zn_wB1, zn_wB0, zn_wO, zn_wOd, zn_wO0, zn_wE, zn_wEe, zn_wE0, zn_leT, zn_leF, zn_ltT, zn_ltF, zn_eqF, zn_eqT, zn_lt0, zn_0le, zn_d2a, zn_d2b, zn_e1a, zn_e1b, zn_10, zn_00, zn_sh4, zn_an15, true_imp_iff, false_imp_iff, imp_true_iff, not_true_eq_false, not_false_eq_true, zn_gT4, zn_gF4, zn_gT8, zn_gF8, zn_gT12, zn_gF12, zn_gT48, zn_gF48, zn_gT124, zn_gF124, zn_gT128, zn_gF128, zn_gT560, zn_gF560, zn_lT7, zn_lF7, zn_lT120, zn_lF120, zn_qT7, zn_qF7, zn_qT120, zn_qF120, zn_qT0, zn_qF0, zn_qT1, zn_qF1, zn_hT0, zn_hF0, zn_hT7, zn_hF7, zn_sb, pk_us, zn_us]
        exact ih (i + 1) yp (by omega) (by omega)
      · simp (disch := omega) only [zn_k4, zn_k8, zn_k16, zn_k32, zn_m16, zn_a64, zn_a128, nI_add, nI_1, nI_clamp, vp_in_nI, true_and, and_true, forall_eq, zn_rN, zn_rB, zn_rO, zn_rE, zn_vb0, zn_vb1, zn_b1, zn_b0, zn_d1, zn_d0, zn_e1, zn_e0, zn_wN, zn_wB1, zn_wB0, zn_wO, zn_wOd, zn_wO0, zn_wE, zn_wEe, zn_wE0, zn_leT, zn_leF, zn_ltT, zn_ltF, zn_eqF, zn_eqT, zn_lt0, zn_0le, zn_d2a, zn_d2b, zn_e1a, zn_e1b, zn_10, zn_00, zn_sh4, zn_an15, true_imp_iff, false_imp_iff, imp_true_iff, not_true_eq_false, not_false_eq_true, zn_gT4, zn_gF4, zn_gT8, zn_gF8, zn_gT12, zn_gF12, zn_gT48, zn_gF48, zn_gT124, zn_gF124, zn_gT128, zn_gF128, zn_gT560, zn_gF560, zn_lT7, zn_lF7, zn_lT120, zn_lF120, zn_qT7, zn_qF7, zn_qT120, zn_qF120, zn_qT0, zn_qF0, zn_qT1, zn_qF1, zn_hT0, zn_hF0, zn_hT7, zn_hF7, zn_sb, pk_us, zn_us]
        refine zy_am (m := ch (r * 16 + i) + 1) hG (by omega) hc.1 (by omega) (fun b => ?_)
        rw [zr_allm0 (by omega) hG hch hsm hr (by omega) hi]
        simp (disch := omega) only [zn_k4, zn_k8, zn_k16, zn_k32, zn_m16, zn_a64, zn_a128, nI_add, nI_1, nI_clamp, vp_in_nI, true_and, and_true, forall_eq, zn_rN, zn_rB, zn_rO, zn_rE, zn_vb0, zn_vb1, zn_b1, zn_b0, zn_d1, zn_d0, zn_e1, zn_e0, zn_wN, zn_wB1, zn_wB0, zn_wO, zn_wOd, zn_wO0, zn_wE, zn_wEe, zn_wE0, zn_leT, zn_leF, zn_ltT, zn_ltF, zn_eqF, zn_eqT, zn_lt0, zn_0le, zn_d2a, zn_d2b, zn_e1a, zn_e1b, zn_10, zn_00, zn_sh4, zn_an15, true_imp_iff, false_imp_iff, imp_true_iff, not_true_eq_false, not_false_eq_true, zn_gT4, zn_gF4, zn_gT8, zn_gF8, zn_gT12, zn_gF12, zn_gT48, zn_gF48, zn_gT124, zn_gF124, zn_gT128, zn_gF128, zn_gT560, zn_gF560, zn_lT7, zn_lF7, zn_lT120, zn_lF120, zn_qT7, zn_qF7, zn_qT120, zn_qF120, zn_qT0, zn_qF0, zn_qT1, zn_qF1, zn_hT0, zn_hF0, zn_hT7, zn_hF7, zn_sb, pk_us, zn_us]
        exact ih (i + 1) b (by omega) (by omega)
    · simp (disch := omega) only [zn_k4, zn_k8, zn_k16, zn_k32, zn_m16, zn_a64, zn_a128, nI_add, nI_1, nI_clamp, vp_in_nI, true_and, and_true, forall_eq, zn_rN, zn_rB, zn_rO, zn_rE, zn_vb0, zn_vb1, zn_b1, zn_b0, zn_d1, zn_d0, zn_e1, zn_e0, zn_wN, zn_wB1, zn_wB0, zn_wO, zn_wOd, zn_wO0, zn_wE, zn_wEe, zn_wE0, zn_leT, zn_leF, zn_ltT, zn_ltF, zn_eqF, zn_eqT, zn_lt0, zn_0le, zn_d2a, zn_d2b, zn_e1a, zn_e1b, zn_10, zn_00, zn_sh4, zn_an15, true_imp_iff, false_imp_iff, imp_true_iff, not_true_eq_false, not_false_eq_true, zn_gT4, zn_gF4, zn_gT8, zn_gF8, zn_gT12, zn_gF12, zn_gT48, zn_gF48, zn_gT124, zn_gF124, zn_gT128, zn_gF128, zn_gT560, zn_gF560, zn_lT7, zn_lF7, zn_lT120, zn_lF120, zn_qT7, zn_qF7, zn_qT120, zn_qF120, zn_qT0, zn_qF0, zn_qT1, zn_qF1, zn_hT0, zn_hF0, zn_hT7, zn_hF7, zn_sb, pk_us, zn_us]
      exact ih (i + 1) yp (by omega) (by omega)
theorem zr_commit {r : Nat} (hr : r < n) : ∀ d i c (rl : Nat) (op ol ov : Nat → Int32) (xo go : Nat → Nat), zr_F n sc lm sv rl bg ix ic st en xo xp xt xk xl xm gp gi gx go ch to gq gf sf xup yup kn fl xs gs gm gv gr ga xv xrs xrr xra xss P D → c ≤ i → i + d = st r + 1 → ∃ c' rl' op' ol' ov' xo' go', (zr_F n sc lm sv (rl') bg ix ic st en (xo') xp xt xk xl xm gp gi gx (go') ch to gq gf sf xup yup kn fl xs gs gm gv gr ga xv xrs xrr xra xss P D) ∧ (∀ post : Int32 → SX → Prop, post (nI c') (nI n, nI sc, nI lm, nI sv, nI (rl'), nI bg, zc_B xup, zc_N ix, zc_N ic, zc_N st, un, rp, dc, xv, zc_B xs, zc_N (xo'), xrs, xrr, xra, zc_O xp, zc_O xt, xss, sr, sa, zc_N en, zc_N xk, zc_N xl, zc_E xm, (op'), (ol'), (ov')) → wX_commit_34 post (nI r) (nI (st r)) (d + 1) (nI c) (nI i) (nI n) (nI sc) (nI lm) (nI sv) (nI rl) (nI bg) (zc_B xup) (zc_N ix) (zc_N ic) (zc_N st) un rp dc xv (zc_B xs) (zc_N xo) xrs xrr xra (zc_O xp) (zc_O xt) xss sr sa (zc_N en) (zc_N xk) (zc_N xl) (zc_E xm) op ol ov) ∧ (∀ post : Int32 → SY → Prop, (∀ b : Nat → Bool, post (nI c') (nI n, nI sc, nI lm, nI sv, nI bg, nI (rl'), zc_N gp, zc_N gi, zc_N gx, gv, zc_E gq, zc_E gf, gr, ga, zc_N (go'), zc_B gs, zc_B gm, zc_B (b), zc_B yup, zc_N ix, zc_N ic, zc_N st, un, rp, dc, zc_N ch, zc_N en, zc_B kn, zc_B fl, zc_N to, zc_E sf, sr, sa, (op'), (ol'), (ov'))) → ∀ yp : Nat → Bool, wY_commit_26 post (nI r) (d + (ix r - st r) + 1) (nI c) (nI i) (nI n) (nI sc) (nI lm) (nI sv) (nI bg) (nI rl) (zc_N gp) (zc_N gi) (zc_N gx) gv (zc_E gq) (zc_E gf) gr ga (zc_N go) (zc_B gs) (zc_B gm) (zc_B yp) (zc_B yup) (zc_N ix) (zc_N ic) (zc_N st) un rp dc (zc_N ch) (zc_N en) (zc_B kn) (zc_B fl) (zc_N to) (zc_E sf) sr sa op ol ov) := by
  intro d
  induction d with
  | zero =>
    intro i c rl op ol ov xo go F hc h
    have hst := F.2.1.2.2.1 r
    have hix := F.2.1.1 r
    have hlm := F.1.2.2.1.2
    refine ⟨c, rl, op, ol, ov, xo, go, F, fun post hp => ?_, fun post hp yp => ?_⟩
    · exact br_t (nI_lt (by omega) (by omega)) hp
    · rw [Nat.zero_add]
      exact zy_ctail F hr hp (ix r - st r) i yp (by omega) (by omega)
  | succ d ih =>
    intro i c rl op ol ov xo go F hc h
    have F0 := F
    obtain ⟨hnum, hb1, hb2, hb3, hup, hk1, hk2, hG, hiv, hD, hcur, hch, hK, hv, hd, hsl, hm, hsm, hfr, hsv⟩ := F
    obtain ⟨hn, hsc, hlm, hsvn, hrl, hbg⟩ := hnum
    have hst := hb1.2.2.1 r
    have hix := hb1.1 r
    have hcc := hch.1 r i hr (by omega)
    have ho := hb3.2.2.2.1 (ch (r * 16 + i))
    have hdd := hd r i hr (by omega)
    have hxo := hdd.2.2.1
    have hf : d + 1 + (ix r - st r) + 1 = (d + (ix r - st r) + 1) + 1 := by omega
    by_cases hq : go (ch (r * 16 + i)) = 1
    · by_cases h48 : 48 ≤ rl
      · obtain ⟨c', rl', op', ol', ov', xo', go', F1, hX, hY⟩ := ih (i + 1) c rl op ol ov xo go F0 (by omega) (by omega)
        refine ⟨c', rl', op', ol', ov', xo', go', F1, fun post hp => ?_, fun post hp yp => ?_⟩
        · have := hX post hp
          rw [wX_commit_34]
          simp (disch := omega) only [zn_k4, zn_k8, zn_k16, zn_k32, zn_m16, zn_a64, zn_a128, nI_add, nI_1, nI_clamp, vp_in_nI, true_and, and_true, forall_eq, zn_rN, zn_rB, zn_rO, zn_rE, zn_vb0, zn_vb1, zn_b1, zn_b0, zn_d1, zn_d0, zn_e1, zn_e0, zn_wN, zn_wB1, zn_wB0, zn_wO, zn_wOd, zn_wO0, zn_wE, zn_wEe, zn_wE0, zn_leT, zn_leF, zn_ltT, zn_ltF, zn_eqF, zn_eqT, zn_lt0, zn_0le, zn_d2a, zn_d2b, zn_e1a, zn_e1b, zn_10, zn_00, zn_sh4, zn_an15, true_imp_iff, false_imp_iff, imp_true_iff, not_true_eq_false, not_false_eq_true, zn_gT4, zn_gF4, zn_gT8, zn_gF8, zn_gT12, zn_gF12, zn_gT48, zn_gF48, zn_gT124, zn_gF124, zn_gT128, zn_gF128, zn_gT560, zn_gF560, zn_lT7, zn_lF7, zn_lT120, zn_lF120, zn_qT7, zn_qF7, zn_qT120, zn_qF120, zn_qT0, zn_qF0, zn_qT1, zn_qF1, zn_hT0, zn_hF0, zn_hT7, zn_hF7, zn_sb, pk_us, zn_us, hxo]
          exact this
        · have := hY post hp yp
          rw [hf, wY_commit_26]
          simp (disch := omega) only [zn_k4, zn_k8, zn_k16, zn_k32, zn_m16, zn_a64, zn_a128, nI_add, nI_1, nI_clamp, vp_in_nI, true_and, and_true, forall_eq, zn_rN, zn_rB, zn_rO, zn_rE, zn_vb0, zn_vb1, zn_b1, zn_b0, zn_d1, zn_d0, zn_e1, zn_e0, zn_wN, zn_wB1, zn_wB0, zn_wO, zn_wOd, zn_wO0, zn_wE, zn_wEe, zn_wE0, zn_leT, zn_leF, zn_ltT, zn_ltF, zn_eqF, zn_eqT, zn_lt0, zn_0le, zn_d2a, zn_d2b, zn_e1a, zn_e1b, zn_10, zn_00, zn_sh4, zn_an15, true_imp_iff, false_imp_iff, imp_true_iff, not_true_eq_false, not_false_eq_true, zn_gT4, zn_gF4, zn_gT8, zn_gF8, zn_gT12, zn_gF12, zn_gT48, zn_gF48, zn_gT124, zn_gF124, zn_gT128, zn_gF128, zn_gT560, zn_gF560, zn_lT7, zn_lF7, zn_lT120, zn_lF120, zn_qT7, zn_qF7, zn_qT120, zn_qF120, zn_qT0, zn_qF0, zn_qT1, zn_qF1, zn_hT0, zn_hF0, zn_hT7, zn_hF7, zn_sb, pk_us, zn_us]
          exact this
      · have ha := zr_allm (i := i) hn.2 (by omega) hb3 hG hiv hD hch hv hm hsm hr (by omega) (by omega)
        cases hz : zq_yam P gm (ch (r * 16 + i) + 1) r with
        | false =>
          rw [hz] at ha
          obtain ⟨c', rl', op', ol', ov', xo', go', F1, hX, hY⟩ := ih (i + 1) c rl op ol ov xo go F0 (by omega) (by omega)
          refine ⟨c', rl', op', ol', ov', xo', go', F1, fun post hp => ?_, fun post hp yp => ?_⟩
          · have := hX post hp
            rw [wX_commit_34]
            simp (disch := omega) only [zn_k4, zn_k8, zn_k16, zn_k32, zn_m16, zn_a64, zn_a128, nI_add, nI_1, nI_clamp, vp_in_nI, true_and, and_true, forall_eq, zn_rN, zn_rB, zn_rO, zn_rE, zn_vb0, zn_vb1, zn_b1, zn_b0, zn_d1, zn_d0, zn_e1, zn_e0, zn_wN, zn_wB1, zn_wB0, zn_wO, zn_wOd, zn_wO0, zn_wE, zn_wEe, zn_wE0, zn_leT, zn_leF, zn_ltT, zn_ltF, zn_eqF, zn_eqT, zn_lt0, zn_0le, zn_d2a, zn_d2b, zn_e1a, zn_e1b, zn_10, zn_00, zn_sh4, zn_an15, true_imp_iff, false_imp_iff, imp_true_iff, not_true_eq_false, not_false_eq_true, zn_gT4, zn_gF4, zn_gT8, zn_gF8, zn_gT12, zn_gF12, zn_gT48, zn_gF48, zn_gT124, zn_gF124, zn_gT128, zn_gF128, zn_gT560, zn_gF560, zn_lT7, zn_lF7, zn_lT120, zn_lF120, zn_qT7, zn_qF7, zn_qT120, zn_qF120, zn_qT0, zn_qF0, zn_qT1, zn_qF1, zn_hT0, zn_hF0, zn_hT7, zn_hF7, zn_sb, pk_us, zn_us, hxo]
            refine zx_others hn.2 (by omega) (by omega) hb2.2.1 hb2.2.2.2.2.2 ?_
            rw [ha]
            simp (disch := omega) only [zn_k4, zn_k8, zn_k16, zn_k32, zn_m16, zn_a64, zn_a128, nI_add, nI_1, nI_clamp, vp_in_nI, true_and, and_true, forall_eq, zn_rN, zn_rB, zn_rO, zn_rE, zn_vb0, zn_vb1, zn_b1, zn_b0, zn_d1, zn_d0, zn_e1, zn_e0, zn_wN, zn_wB1, zn_wB0, zn_wO, zn_wOd, zn_wO0, zn_wE, zn_wEe, zn_wE0, zn_leT, zn_leF, zn_ltT, zn_ltF, zn_eqF, zn_eqT, zn_lt0, zn_0le, zn_d2a, zn_d2b, zn_e1a, zn_e1b, zn_10, zn_00, zn_sh4, zn_an15, true_imp_iff, false_imp_iff, imp_true_iff, not_true_eq_false, not_false_eq_true, zn_gT4, zn_gF4, zn_gT8, zn_gF8, zn_gT12, zn_gF12, zn_gT48, zn_gF48, zn_gT124, zn_gF124, zn_gT128, zn_gF128, zn_gT560, zn_gF560, zn_lT7, zn_lF7, zn_lT120, zn_lF120, zn_qT7, zn_qF7, zn_qT120, zn_qF120, zn_qT0, zn_qF0, zn_qT1, zn_qF1, zn_hT0, zn_hF0, zn_hT7, zn_hF7, zn_sb, pk_us, zn_us]
            exact this
          · rw [hf, wY_commit_26]
            simp (disch := omega) only [zn_k4, zn_k8, zn_k16, zn_k32, zn_m16, zn_a64, zn_a128, nI_add, nI_1, nI_clamp, vp_in_nI, true_and, and_true, forall_eq, zn_rN, zn_rB, zn_rO, zn_rE, zn_vb0, zn_vb1, zn_b1, zn_b0, zn_d1, zn_d0, zn_e1, zn_e0, zn_wN, zn_wB1, zn_wB0, zn_wO, zn_wOd, zn_wO0, zn_wE, zn_wEe, zn_wE0, zn_leT, zn_leF, zn_ltT, zn_ltF, zn_eqF, zn_eqT, zn_lt0, zn_0le, zn_d2a, zn_d2b, zn_e1a, zn_e1b, zn_10, zn_00, zn_sh4, zn_an15, true_imp_iff, false_imp_iff, imp_true_iff, not_true_eq_false, not_false_eq_true, zn_gT4, zn_gF4, zn_gT8, zn_gF8, zn_gT12, zn_gF12, zn_gT48, zn_gF48, zn_gT124, zn_gF124, zn_gT128, zn_gF128, zn_gT560, zn_gF560, zn_lT7, zn_lF7, zn_lT120, zn_lF120, zn_qT7, zn_qF7, zn_qT120, zn_qF120, zn_qT0, zn_qF0, zn_qT1, zn_qF1, zn_hT0, zn_hF0, zn_hT7, zn_hF7, zn_sb, pk_us, zn_us]
            refine zy_am (m := ch (r * 16 + i) + 1) hG (by omega) hcc.1 (by omega) (fun b => ?_)
            have := hY post hp b
            rw [hz]
            simp (disch := omega) only [zn_k4, zn_k8, zn_k16, zn_k32, zn_m16, zn_a64, zn_a128, nI_add, nI_1, nI_clamp, vp_in_nI, true_and, and_true, forall_eq, zn_rN, zn_rB, zn_rO, zn_rE, zn_vb0, zn_vb1, zn_b1, zn_b0, zn_d1, zn_d0, zn_e1, zn_e0, zn_wN, zn_wB1, zn_wB0, zn_wO, zn_wOd, zn_wO0, zn_wE, zn_wEe, zn_wE0, zn_leT, zn_leF, zn_ltT, zn_ltF, zn_eqF, zn_eqT, zn_lt0, zn_0le, zn_d2a, zn_d2b, zn_e1a, zn_e1b, zn_10, zn_00, zn_sh4, zn_an15, true_imp_iff, false_imp_iff, imp_true_iff, not_true_eq_false, not_false_eq_true, zn_gT4, zn_gF4, zn_gT8, zn_gF8, zn_gT12, zn_gF12, zn_gT48, zn_gF48, zn_gT124, zn_gF124, zn_gT128, zn_gF128, zn_gT560, zn_gF560, zn_lT7, zn_lF7, zn_lT120, zn_lF120, zn_qT7, zn_qF7, zn_qT120, zn_qF120, zn_qT0, zn_qF0, zn_qT1, zn_qF1, zn_hT0, zn_hF0, zn_hT7, zn_hF7, zn_sb, pk_us, zn_us]
            exact this
        | true =>
          rw [hz] at ha
          have e1 := (hv r i r hr (by omega) (by omega)).1
          have e2 := hD.2.2.2 _ hcc.1
          rw [hcc.2.1] at e2
          rw [e2] at e1
          have F2 := zr_rlF (e := rl + 1) (zr_outF (p := r) (i := i) (e := 2) F0 hr (by omega) (by omega)) (by omega)
          obtain ⟨c', rl', op', ol', ov', xo', go', F1, hX, hY⟩ := ih (i + 1) (c + 1) (rl + 1) (upd op rl (nI r)) (upd ol rl (nI (16 * gi (ch (r * 16 + i)) + gx (ch (r * 16 + i))))) (upd ov rl (gv (ch (r * 16 + i)))) _ _ F2 (by omega) (by omega)
          refine ⟨c', rl', op', ol', ov', xo', go', F1, fun post hp => ?_, fun post hp yp => ?_⟩
          · have := hX post hp
            rw [wX_commit_34]
            simp (disch := omega) only [zn_k4, zn_k8, zn_k16, zn_k32, zn_m16, zn_a64, zn_a128, nI_add, nI_1, nI_clamp, vp_in_nI, true_and, and_true, forall_eq, zn_rN, zn_rB, zn_rO, zn_rE, zn_vb0, zn_vb1, zn_b1, zn_b0, zn_d1, zn_d0, zn_e1, zn_e0, zn_wN, zn_wB1, zn_wB0, zn_wO, zn_wOd, zn_wO0, zn_wE, zn_wEe, zn_wE0, zn_leT, zn_leF, zn_ltT, zn_ltF, zn_eqF, zn_eqT, zn_lt0, zn_0le, zn_d2a, zn_d2b, zn_e1a, zn_e1b, zn_10, zn_00, zn_sh4, zn_an15, true_imp_iff, false_imp_iff, imp_true_iff, not_true_eq_false, not_false_eq_true, zn_gT4, zn_gF4, zn_gT8, zn_gF8, zn_gT12, zn_gF12, zn_gT48, zn_gF48, zn_gT124, zn_gF124, zn_gT128, zn_gF128, zn_gT560, zn_gF560, zn_lT7, zn_lF7, zn_lT120, zn_lF120, zn_qT7, zn_qF7, zn_qT120, zn_qF120, zn_qT0, zn_qF0, zn_qT1, zn_qF1, zn_hT0, zn_hF0, zn_hT7, zn_hF7, zn_sb, pk_us, zn_us, hxo]
            refine zx_others hn.2 (by omega) (by omega) hb2.2.1 hb2.2.2.2.2.2 ?_
            rw [ha]
            simp (disch := omega) only [zn_k4, zn_k8, zn_k16, zn_k32, zn_m16, zn_a64, zn_a128, nI_add, nI_1, nI_clamp, vp_in_nI, true_and, and_true, forall_eq, zn_rN, zn_rB, zn_rO, zn_rE, zn_vb0, zn_vb1, zn_b1, zn_b0, zn_d1, zn_d0, zn_e1, zn_e0, zn_wN, zn_wB1, zn_wB0, zn_wO, zn_wOd, zn_wO0, zn_wE, zn_wEe, zn_wE0, zn_leT, zn_leF, zn_ltT, zn_ltF, zn_eqF, zn_eqT, zn_lt0, zn_0le, zn_d2a, zn_d2b, zn_e1a, zn_e1b, zn_10, zn_00, zn_sh4, zn_an15, true_imp_iff, false_imp_iff, imp_true_iff, not_true_eq_false, not_false_eq_true, zn_gT4, zn_gF4, zn_gT8, zn_gF8, zn_gT12, zn_gF12, zn_gT48, zn_gF48, zn_gT124, zn_gF124, zn_gT128, zn_gF128, zn_gT560, zn_gF560, zn_lT7, zn_lF7, zn_lT120, zn_lF120, zn_qT7, zn_qF7, zn_qT120, zn_qF120, zn_qT0, zn_qF0, zn_qT1, zn_qF1, zn_hT0, zn_hF0, zn_hT7, zn_hF7, zn_sb, pk_us, zn_us]
            refine zx_release (by omega) (by omega) (by omega) e1 ?_
            rw [hdd.1]
            simp (disch := omega) only [zn_k4, zn_k8, zn_k16, zn_k32, zn_m16, zn_a64, zn_a128, nI_add, nI_1, nI_clamp, vp_in_nI, true_and, and_true, forall_eq, zn_rN, zn_rB, zn_rO, zn_rE, zn_vb0, zn_vb1, zn_b1, zn_b0, zn_d1, zn_d0, zn_e1, zn_e0, zn_wN, zn_wB1, zn_wB0, zn_wO, zn_wOd, zn_wO0, zn_wE, zn_wEe, zn_wE0, zn_leT, zn_leF, zn_ltT, zn_ltF, zn_eqF, zn_eqT, zn_lt0, zn_0le, zn_d2a, zn_d2b, zn_e1a, zn_e1b, zn_10, zn_00, zn_sh4, zn_an15, true_imp_iff, false_imp_iff, imp_true_iff, not_true_eq_false, not_false_eq_true, zn_gT4, zn_gF4, zn_gT8, zn_gF8, zn_gT12, zn_gF12, zn_gT48, zn_gF48, zn_gT124, zn_gF124, zn_gT128, zn_gF128, zn_gT560, zn_gF560, zn_lT7, zn_lF7, zn_lT120, zn_lF120, zn_qT7, zn_qF7, zn_qT120, zn_qF120, zn_qT0, zn_qF0, zn_qT1, zn_qF1, zn_hT0, zn_hF0, zn_hT7, zn_hF7, zn_sb, pk_us, zn_us]
            exact this
          · rw [hf, wY_commit_26]
            simp (disch := omega) only [zn_k4, zn_k8, zn_k16, zn_k32, zn_m16, zn_a64, zn_a128, nI_add, nI_1, nI_clamp, vp_in_nI, true_and, and_true, forall_eq, zn_rN, zn_rB, zn_rO, zn_rE, zn_vb0, zn_vb1, zn_b1, zn_b0, zn_d1, zn_d0, zn_e1, zn_e0, zn_wN, zn_wB1, zn_wB0, zn_wO, zn_wOd, zn_wO0, zn_wE, zn_wEe, zn_wE0, zn_leT, zn_leF, zn_ltT, zn_ltF, zn_eqF, zn_eqT, zn_lt0, zn_0le, zn_d2a, zn_d2b, zn_e1a, zn_e1b, zn_10, zn_00, zn_sh4, zn_an15, true_imp_iff, false_imp_iff, imp_true_iff, not_true_eq_false, not_false_eq_true, zn_gT4, zn_gF4, zn_gT8, zn_gF8, zn_gT12, zn_gF12, zn_gT48, zn_gF48, zn_gT124, zn_gF124, zn_gT128, zn_gF128, zn_gT560, zn_gF560, zn_lT7, zn_lF7, zn_lT120, zn_lF120, zn_qT7, zn_qF7, zn_qT120, zn_qF120, zn_qT0, zn_qF0, zn_qT1, zn_qF1, zn_hT0, zn_hF0, zn_hT7, zn_hF7, zn_sb, pk_us, zn_us]
            refine zy_am (m := ch (r * 16 + i) + 1) hG (by omega) hcc.1 (by omega) (fun b => ?_)
            have := hY post hp b
            have e3 : upd (zc_N go) (ch (r * 16 + i)) 2 = zc_N (zc_u go (ch (r * 16 + i)) 2) := zn_wN go _ 2
            rw [hz]
            simp (disch := omega) only [zn_k4, zn_k8, zn_k16, zn_k32, zn_m16, zn_a64, zn_a128, nI_add, nI_1, nI_clamp, vp_in_nI, true_and, and_true, forall_eq, zn_rN, zn_rB, zn_rO, zn_rE, zn_vb0, zn_vb1, zn_b1, zn_b0, zn_d1, zn_d0, zn_e1, zn_e0, zn_wN, zn_wB1, zn_wB0, zn_wO, zn_wOd, zn_wO0, zn_wE, zn_wEe, zn_wE0, zn_leT, zn_leF, zn_ltT, zn_ltF, zn_eqF, zn_eqT, zn_lt0, zn_0le, zn_d2a, zn_d2b, zn_e1a, zn_e1b, zn_10, zn_00, zn_sh4, zn_an15, true_imp_iff, false_imp_iff, imp_true_iff, not_true_eq_false, not_false_eq_true, zn_gT4, zn_gF4, zn_gT8, zn_gF8, zn_gT12, zn_gF12, zn_gT48, zn_gF48, zn_gT124, zn_gF124, zn_gT128, zn_gF128, zn_gT560, zn_gF560, zn_lT7, zn_lF7, zn_lT120, zn_lF120, zn_qT7, zn_qF7, zn_qT120, zn_qF120, zn_qT0, zn_qF0, zn_qT1, zn_qF1, zn_hT0, zn_hF0, zn_hT7, zn_hF7, zn_sb, pk_us, zn_us, e3]
            exact this
    · obtain ⟨c', rl', op', ol', ov', xo', go', F1, hX, hY⟩ := ih (i + 1) c rl op ol ov xo go F0 (by omega) (by omega)
      refine ⟨c', rl', op', ol', ov', xo', go', F1, fun post hp => ?_, fun post hp yp => ?_⟩
      · have := hX post hp
        rw [wX_commit_34]
        simp (disch := omega) only [zn_k4, zn_k8, zn_k16, zn_k32, zn_m16, zn_a64, zn_a128, nI_add, nI_1, nI_clamp, vp_in_nI, true_and, and_true, forall_eq, zn_rN, zn_rB, zn_rO, zn_rE, zn_vb0, zn_vb1, zn_b1, zn_b0, zn_d1, zn_d0, zn_e1, zn_e0, zn_wN, zn_wB1, zn_wB0, zn_wO, zn_wOd, zn_wO0, zn_wE, zn_wEe, zn_wE0, zn_leT, zn_leF, zn_ltT, zn_ltF, zn_eqF, zn_eqT, zn_lt0, zn_0le, zn_d2a, zn_d2b, zn_e1a, zn_e1b, zn_10, zn_00, zn_sh4, zn_an15, true_imp_iff, false_imp_iff, imp_true_iff, not_true_eq_false, not_false_eq_true, zn_gT4, zn_gF4, zn_gT8, zn_gF8, zn_gT12, zn_gF12, zn_gT48, zn_gF48, zn_gT124, zn_gF124, zn_gT128, zn_gF128, zn_gT560, zn_gF560, zn_lT7, zn_lF7, zn_lT120, zn_lF120, zn_qT7, zn_qF7, zn_qT120, zn_qF120, zn_qT0, zn_qF0, zn_qT1, zn_qF1, zn_hT0, zn_hF0, zn_hT7, zn_hF7, zn_sb, pk_us, zn_us, hxo]
        exact this
      · have := hY post hp yp
        rw [hf, wY_commit_26]
        simp (disch := omega) only [zn_k4, zn_k8, zn_k16, zn_k32, zn_m16, zn_a64, zn_a128, nI_add, nI_1, nI_clamp, vp_in_nI, true_and, and_true, forall_eq, zn_rN, zn_rB, zn_rO, zn_rE, zn_vb0, zn_vb1, zn_b1, zn_b0, zn_d1, zn_d0, zn_e1, zn_e0, zn_wN, zn_wB1, zn_wB0, zn_wO, zn_wOd, zn_wO0, zn_wE, zn_wEe, zn_wE0, zn_leT, zn_leF, zn_ltT, zn_ltF, zn_eqF, zn_eqT, zn_lt0, zn_0le, zn_d2a, zn_d2b, zn_e1a, zn_e1b, zn_10, zn_00, zn_sh4, zn_an15, true_imp_iff, false_imp_iff, imp_true_iff, not_true_eq_false, not_false_eq_true, zn_gT4, zn_gF4, zn_gT8, zn_gF8, zn_gT12, zn_gF12, zn_gT48, zn_gF48, zn_gT124, zn_gF124, zn_gT128, zn_gF128, zn_gT560, zn_gF560, zn_lT7, zn_lF7, zn_lT120, zn_lF120, zn_qT7, zn_qF7, zn_qT120, zn_qF120, zn_qT0, zn_qF0, zn_qT1, zn_qF1, zn_hT0, zn_hF0, zn_hT7, zn_hF7, zn_sb, pk_us, zn_us]
        exact this
theorem zt_commit {v1 : Int32} (F : zr_F n sc lm sv rl bg ix ic st en xo xp xt xk xl xm gp gi gx go ch to gq gf sf xup yup kn fl xs gs gm gv gr ga xv xrs xrr xra xss P D) : wpX_commit (fun r u' => wpY_commit (fun r' v' => r' = r ∧ i_Rel (k + 4) u' v') (nI n, nI sc, nI lm, nI sv, nI bg, nI rl, zc_N gp, zc_N gi, zc_N gx, gv, zc_E gq, zc_E gf, gr, ga, zc_N go, zc_B gs, zc_B gm, zc_B yp, zc_B yup, zc_N ix, zc_N ic, zc_N st, un, rp, dc, zc_N ch, zc_N en, zc_B kn, zc_B fl, zc_N to, zc_E sf, sr, sa, op, ol, ov) v1) (nI n, nI sc, nI lm, nI sv, nI rl, nI bg, zc_B xup, zc_N ix, zc_N ic, zc_N st, un, rp, dc, xv, zc_B xs, zc_N xo, xrs, xrr, xra, zc_O xp, zc_O xt, xss, sr, sa, zc_N en, zc_N xk, zc_N xl, zc_E xm, op, ol, ov) v1 := by
  have R : i_Rel (k + 4) (nI n, nI sc, nI lm, nI sv, nI rl, nI bg, zc_B xup, zc_N ix, zc_N ic, zc_N st, un, rp, dc, xv, zc_B xs, zc_N xo, xrs, xrr, xra, zc_O xp, zc_O xt, xss, sr, sa, zc_N en, zc_N xk, zc_N xl, zc_E xm, op, ol, ov) (nI n, nI sc, nI lm, nI sv, nI bg, nI rl, zc_N gp, zc_N gi, zc_N gx, gv, zc_E gq, zc_E gf, gr, ga, zc_N go, zc_B gs, zc_B gm, zc_B yp, zc_B yup, zc_N ix, zc_N ic, zc_N st, un, rp, dc, zc_N ch, zc_N en, zc_B kn, zc_B fl, zc_N to, zc_E sf, sr, sa, op, ol, ov) := zr_mk F
  have F0 := F
  obtain ⟨hnum, hb1, hb2, hb3, hup, hk1, hk2, hG, hiv, hD, hcur, hch, hK, hv, hd, hsl, hm, hsm, hfr, hsv⟩ := F
  obtain ⟨hn, hsc, hlm, hsvn, hrl, hbg⟩ := hnum
  unfold wpX_commit wpY_commit wpX_isProcess wpY_isProcess
  rcases pk_ix v1 (n := n) (by omega) with h | h | ⟨r, hr, rfl⟩
  · simp (disch := omega) only [zn_k4, zn_k8, zn_k16, zn_k32, zn_m16, zn_a64, zn_a128, nI_add, nI_1, nI_clamp, vp_in_nI, true_and, and_true, forall_eq, zn_rN, zn_rB, zn_rO, zn_rE, zn_vb0, zn_vb1, zn_b1, zn_b0, zn_d1, zn_d0, zn_e1, zn_e0, zn_wN, zn_wB1, zn_wB0, zn_wO, zn_wOd, zn_wO0, zn_wE, zn_wEe, zn_wE0, zn_leT, zn_leF, zn_ltT, zn_ltF, zn_eqF, zn_eqT, zn_lt0, zn_0le, zn_d2a, zn_d2b, zn_e1a, zn_e1b, zn_10, zn_00, zn_sh4, zn_an15, true_imp_iff, false_imp_iff, imp_true_iff, not_true_eq_false, not_false_eq_true, zn_gT4, zn_gF4, zn_gT8, zn_gF8, zn_gT12, zn_gF12, zn_gT48, zn_gF48, zn_gT124, zn_gF124, zn_gT128, zn_gF128, zn_gT560, zn_gF560, zn_lT7, zn_lF7, zn_lT120, zn_lF120, zn_qT7, zn_qF7, zn_qT120, zn_qF120, zn_qT0, zn_qF0, zn_qT1, zn_qF1, zn_hT0, zn_hF0, zn_hT7, zn_hF7, zn_sb, pk_us, zn_us, h]
    first | exact ⟨rfl, R⟩ | exact R
  · simp (disch := omega) only [zn_k4, zn_k8, zn_k16, zn_k32, zn_m16, zn_a64, zn_a128, nI_add, nI_1, nI_clamp, vp_in_nI, true_and, and_true, forall_eq, zn_rN, zn_rB, zn_rO, zn_rE, zn_vb0, zn_vb1, zn_b1, zn_b0, zn_d1, zn_d0, zn_e1, zn_e0, zn_wN, zn_wB1, zn_wB0, zn_wO, zn_wOd, zn_wO0, zn_wE, zn_wEe, zn_wE0, zn_leT, zn_leF, zn_ltT, zn_ltF, zn_eqF, zn_eqT, zn_lt0, zn_0le, zn_d2a, zn_d2b, zn_e1a, zn_e1b, zn_10, zn_00, zn_sh4, zn_an15, true_imp_iff, false_imp_iff, imp_true_iff, not_true_eq_false, not_false_eq_true, zn_gT4, zn_gF4, zn_gT8, zn_gF8, zn_gT12, zn_gF12, zn_gT48, zn_gF48, zn_gT124, zn_gF124, zn_gT128, zn_gF128, zn_gT560, zn_gF560, zn_lT7, zn_lF7, zn_lT120, zn_lF120, zn_qT7, zn_qF7, zn_qT120, zn_qF120, zn_qT0, zn_qF0, zn_qT1, zn_qF1, zn_hT0, zn_hF0, zn_hT7, zn_hF7, zn_sb, pk_us, zn_us, h, zr_nn h (by omega)]
    first | exact ⟨rfl, R⟩ | exact R
  · have hu := (hup r hr).1
    cases hy : yup r with
    | false =>
      rw [hy] at hu
      simp (disch := omega) only [zn_k4, zn_k8, zn_k16, zn_k32, zn_m16, zn_a64, zn_a128, nI_add, nI_1, nI_clamp, vp_in_nI, true_and, and_true, forall_eq, zn_rN, zn_rB, zn_rO, zn_rE, zn_vb0, zn_vb1, zn_b1, zn_b0, zn_d1, zn_d0, zn_e1, zn_e0, zn_wN, zn_wB1, zn_wB0, zn_wO, zn_wOd, zn_wO0, zn_wE, zn_wEe, zn_wE0, zn_leT, zn_leF, zn_ltT, zn_ltF, zn_eqF, zn_eqT, zn_lt0, zn_0le, zn_d2a, zn_d2b, zn_e1a, zn_e1b, zn_10, zn_00, zn_sh4, zn_an15, true_imp_iff, false_imp_iff, imp_true_iff, not_true_eq_false, not_false_eq_true, zn_gT4, zn_gF4, zn_gT8, zn_gF8, zn_gT12, zn_gF12, zn_gT48, zn_gF48, zn_gT124, zn_gF124, zn_gT128, zn_gF128, zn_gT560, zn_gF560, zn_lT7, zn_lF7, zn_lT120, zn_lF120, zn_qT7, zn_qF7, zn_qT120, zn_qF120, zn_qT0, zn_qF0, zn_qT1, zn_qF1, zn_hT0, zn_hF0, zn_hT7, zn_hF7, zn_sb, pk_us, zn_us, hu, hy]
      first | exact ⟨rfl, R⟩ | exact R
    | true =>
      rw [hy] at hu
      obtain ⟨c', rl', op', ol', ov', xo', go', F1, hX, hY⟩ := zr_commit (sr := sr) (sa := sa) (un := un) (rp := rp) (dc := dc) hr (st r + 1) 0 0 rl op ol ov xo go F0 (by omega) (by omega)
      simp (disch := omega) only [zn_k4, zn_k8, zn_k16, zn_k32, zn_m16, zn_a64, zn_a128, nI_add, nI_1, nI_clamp, vp_in_nI, true_and, and_true, forall_eq, zn_rN, zn_rB, zn_rO, zn_rE, zn_vb0, zn_vb1, zn_b1, zn_b0, zn_d1, zn_d0, zn_e1, zn_e0, zn_wN, zn_wB1, zn_wB0, zn_wO, zn_wOd, zn_wO0, zn_wE, zn_wEe, zn_wE0, zn_leT, zn_leF, zn_ltT, zn_ltF, zn_eqF, zn_eqT, zn_lt0, zn_0le, zn_d2a, zn_d2b, zn_e1a, zn_e1b, zn_10, zn_00, zn_sh4, zn_an15, true_imp_iff, false_imp_iff, imp_true_iff, not_true_eq_false, not_false_eq_true, zn_gT4, zn_gF4, zn_gT8, zn_gF8, zn_gT12, zn_gF12, zn_gT48, zn_gF48, zn_gT124, zn_gF124, zn_gT128, zn_gF128, zn_gT560, zn_gF560, zn_lT7, zn_lF7, zn_lT120, zn_lF120, zn_qT7, zn_qF7, zn_qT120, zn_qF120, zn_qT0, zn_qF0, zn_qT1, zn_qF1, zn_hT0, zn_hF0, zn_hT7, zn_hF7, zn_sb, pk_us, zn_us, hu, hy]
      refine ⟨st r + 2, hX _ ?_⟩
      exact ⟨st r + 1 + (ix r - st r) + 1, hY _ (fun b => ⟨rfl, zr_mk F1⟩) yp⟩
end
end
section
/-! announce: the walks -/
def zd_dm (c k e : Nat) : Bool := decide (c ≠ 0 ∧ (c - 1) / 16 ≤ k ∧ e < (c - 1) % 16)
section
variable {n sc lm sv rl bg : Nat} {xup xs gs gm yp yup kn fl : Nat → Bool} {ix ic st xo xp xt en xk xl xm gp gi gx gq gf go ch to sf : Nat → Nat} {un rp dc xv xrs xrr xra xss sr sa op ol ov gv gr ga : Nat → Int32}
variable {P : Nat → Nat → Bool} {D : Nat → Nat → Nat} {k N : Nat}
theorem zx_annH {post : Int32 → SX → Prop} {x r : Nat} (hn : n ≤ 4) (hx : x < n) (hr : r < n) (hk : k < 8) (hkc : k < ic x) (hic : ∀ j, ic j ≤ 7) (hix : ∀ j, ix j ≤ 12) (hen : ∀ j, en j ≤ 12) (hxp : ∀ j, xp j ≤ 128) (hxk : ∀ j, xk j < 256) (hu : xup r = true) (hb : (xk (r * 4 + x)).testBit k = false) (hp : wX_announce_136 post (nI x) (nI k) (nI r) (nI (en (x * 8 + k))) (zc_b (zd_dm (xp ((r * 16 + ix r) * 4 + x)) k (en (x * 8 + k)))) (nI n) (nI sc) (nI lm) (nI sv) (nI rl) (nI bg) (zc_B xup) (zc_N ix) (zc_N ic) (zc_N st) un rp dc xv (zc_B xs) (zc_N xo) xrs xrr xra (zc_O xp) (zc_O xt) xss sr sa (zc_N en) (zc_N xk) (zc_N xl) (zc_E xm) op ol ov) : wpX_announce post (nI n, nI sc, nI lm, nI sv, nI rl, nI bg, zc_B xup, zc_N ix, zc_N ic, zc_N st, un, rp, dc, xv, zc_B xs, zc_N xo, xrs, xrr, xra, zc_O xp, zc_O xt, xss, sr, sa, zc_N en, zc_N xk, zc_N xl, zc_E xm, op, ol, ov) (nI x) (nI k) (nI r) := by
  have hi := hix r
  have hI := hic x
  have he := hen (x * 8 + k)
  have hc := hxp ((r * 16 + ix r) * 4 + x)
  have hbit := (zn_bit (hxk (r * 4 + x)) hk).mpr hb
  unfold wpX_announce wpX_isProcess
  by_cases h0 : xp ((r * 16 + ix r) * 4 + x) = 0
  · have e0 : zd_dm (xp ((r * 16 + ix r) * 4 + x)) k (en (x * 8 + k)) = false := decide_eq_false (fun z => z.1 h0)
    rw [e0] at hp
    simp (disch := omega) only [zn_k4, zn_k8, zn_k16, zn_k32, zn_m16, zn_a64, zn_a128, nI_add, nI_1, nI_clamp, vp_in_nI, true_and, and_true, forall_eq, zn_rN, zn_rB, zn_rO, zn_rE, zn_vb0, zn_vb1, zn_b1, zn_b0, zn_d1, zn_d0, zn_e1, zn_e0, zn_wN, zn_wB1, zn_wB0, zn_wO, zn_wOd, zn_wO0, zn_wE, zn_wEe, zn_wE0, zn_leT, zn_leF, zn_ltT, zn_ltF, zn_eqF, zn_eqT, zn_lt0, zn_0le, zn_d2a, zn_d2b, zn_e1a, zn_e1b, zn_10, zn_00, zn_sh4, zn_an15, true_imp_iff, false_imp_iff, imp_true_iff, not_true_eq_false, not_false_eq_true, zn_gT4, zn_gF4, zn_gT8, zn_gF8, zn_gT12, zn_gF12, zn_gT48, zn_gF48, zn_gT124, zn_gF124, zn_gT128, zn_gF128, zn_gT560, zn_gF560, zn_lT7, zn_lF7, zn_lT120, zn_lF120, zn_qT7, zn_qF7, zn_qT120, zn_qF120, zn_qT0, zn_qF0, zn_qT1, zn_qF1, zn_hT0, zn_hF0, zn_hT7, zn_hF7, zn_sb, pk_us, zn_us, hu, eq_true hbit, h0, wX_announce_135]
    exact hp
  · obtain ⟨l, hl⟩ : ∃ l, xp ((r * 16 + ix r) * 4 + x) = l + 1 := ⟨xp ((r * 16 + ix r) * 4 + x) - 1, by omega⟩
    unfold zd_dm at hp
    rw [hl, Nat.add_sub_cancel] at hp
    by_cases h1 : l / 16 ≤ k
    · by_cases h2 : en (x * 8 + k) < l % 16
      · rw [decide_eq_true ⟨by omega, h1, h2⟩] at hp
        simp (disch := omega) only [zn_k4, zn_k8, zn_k16, zn_k32, zn_m16, zn_a64, zn_a128, nI_add, nI_1, nI_clamp, vp_in_nI, true_and, and_true, forall_eq, zn_rN, zn_rB, zn_rO, zn_rE, zn_vb0, zn_vb1, zn_b1, zn_b0, zn_d1, zn_d0, zn_e1, zn_e0, zn_wN, zn_wB1, zn_wB0, zn_wO, zn_wOd, zn_wO0, zn_wE, zn_wEe, zn_wE0, zn_leT, zn_leF, zn_ltT, zn_ltF, zn_eqF, zn_eqT, zn_lt0, zn_0le, zn_d2a, zn_d2b, zn_e1a, zn_e1b, zn_10, zn_00, zn_sh4, zn_an15, true_imp_iff, false_imp_iff, imp_true_iff, not_true_eq_false, not_false_eq_true, zn_gT4, zn_gF4, zn_gT8, zn_gF8, zn_gT12, zn_gF12, zn_gT48, zn_gF48, zn_gT124, zn_gF124, zn_gT128, zn_gF128, zn_gT560, zn_gF560, zn_lT7, zn_lF7, zn_lT120, zn_lF120, zn_qT7, zn_qF7, zn_qT120, zn_qF120, zn_qT0, zn_qF0, zn_qT1, zn_qF1, zn_hT0, zn_hF0, zn_hT7, zn_hF7, zn_sb, pk_us, zn_us, hu, eq_true hbit, hl, wX_announce_135]
        exact hp
      · rw [decide_eq_false (fun z => h2 z.2.2)] at hp
        simp (disch := omega) only [zn_k4, zn_k8, zn_k16, zn_k32, zn_m16, zn_a64, zn_a128, nI_add, nI_1, nI_clamp, vp_in_nI, true_and, and_true, forall_eq, zn_rN, zn_rB, zn_rO, zn_rE, zn_vb0, zn_vb1, zn_b1, zn_b0, zn_d1, zn_d0, zn_e1, zn_e0, zn_wN, zn_wB1, zn_wB0, zn_wO, zn_wOd, zn_wO0, zn_wE, zn_wEe, zn_wE0, zn_leT, zn_leF, zn_ltT, zn_ltF, zn_eqF, zn_eqT, zn_lt0, zn_0le, zn_d2a, zn_d2b, zn_e1a, zn_e1b, zn_10, zn_00, zn_sh4, zn_an15, true_imp_iff, false_imp_iff, imp_true_iff, not_true_eq_false, not_false_eq_true, zn_gT4, zn_gF4, zn_gT8, zn_gF8, zn_gT12, zn_gF12, zn_gT48, zn_gF48, zn_gT124, zn_gF124, zn_gT128, zn_gF128, zn_gT560, zn_gF560, zn_lT7, zn_lF7, zn_lT120, zn_lF120, zn_qT7, zn_qF7, zn_qT120, zn_qF120, zn_qT0, zn_qF0, zn_qT1, zn_qF1, zn_hT0, zn_hF0, zn_hT7, zn_hF7, zn_sb, pk_us, zn_us, hu, eq_true hbit, hl, wX_announce_135]
        exact hp
    · rw [decide_eq_false (fun z => h1 z.2.1)] at hp
      simp (disch := omega) only [zn_k4, zn_k8, zn_k16, zn_k32, zn_m16, zn_a64, zn_a128, nI_add, nI_1, nI_clamp, vp_in_nI, true_and, and_true, forall_eq, zn_rN, zn_rB, zn_rO, zn_rE, zn_vb0, zn_vb1, zn_b1, zn_b0, zn_d1, zn_d0, zn_e1, zn_e0, zn_wN, zn_wB1, zn_wB0, zn_wO, zn_wOd, zn_wO0, zn_wE, zn_wEe, zn_wE0, zn_leT, zn_leF, zn_ltT, zn_ltF, zn_eqF, zn_eqT, zn_lt0, zn_0le, zn_d2a, zn_d2b, zn_e1a, zn_e1b, zn_10, zn_00, zn_sh4, zn_an15, true_imp_iff, false_imp_iff, imp_true_iff, not_true_eq_false, not_false_eq_true, zn_gT4, zn_gF4, zn_gT8, zn_gF8, zn_gT12, zn_gF12, zn_gT48, zn_gF48, zn_gT124, zn_gF124, zn_gT128, zn_gF128, zn_gT560, zn_gF560, zn_lT7, zn_lF7, zn_lT120, zn_lF120, zn_qT7, zn_qF7, zn_qT120, zn_qF120, zn_qT0, zn_qF0, zn_qT1, zn_qF1, zn_hT0, zn_hF0, zn_hT7, zn_hF7, zn_sb, pk_us, zn_us, hu, eq_true hbit, hl, wX_announce_135]
      exact hp
theorem zx_roll {post : Int32 → SX → Prop} {r K f : Nat} {dc' : Nat → Int32} {xt' : Nat → Nat} {xss' sr' sa' : Nat → Int32} {xp' : Nat → Nat} (hn : n ≤ 4) (hr : r < 4) (hic : ic r < 7) (hix : ∀ j, ix j ≤ 12) (hst : ∀ j, st j ≤ ix j) (hxp : ∀ j, xp j ≤ 128) (hxl : ∀ j, xl j ≤ 16) (hK : zf_last (fun j => !zq_orph xp xl n r (r * 16 + j)) (ix r) = K) (h : ∀ Q : SX → Prop, Q (nI n, nI sc, nI lm, nI sv, nI rl, nI bg, zc_B xup, zc_N (zc_u ix r K), zc_N (zc_u ic r (ic r + 1)), zc_N (if st r ≤ K then st else zc_u st r K), (upd un r (un r + nI (ix r - K))), (upd rp r (rp r + nI (K - zf_last (fun j => xs (r * 16 + j)) K))), (dc'), xv, zc_B xs, zc_N xo, xrs, xrr, xra, zc_O (xp'), zc_O (xt'), (xss'), (sr'), (sa'), zc_N (zc_u en (r * 8 + ic r) K), zc_N (zc_u xk (r * 4 + r) (xk (r * 4 + r) ||| 2 ^ ic r)), zc_N (zl_ln xl ((r * 4 + r) * 8) (ic r + 1) K), zc_E xm, op, ol, ov) → wX_returnReceipts_3 Q (nI r) (nI (ix r)) f (nI (K + 1)) (nI n) (nI sc) (nI lm) (nI sv) (nI rl) (nI bg) (zc_B xup) (zc_N (zc_u ix r K)) (zc_N (zc_u ic r (ic r + 1))) (zc_N (if st r ≤ K then st else zc_u st r K)) (upd un r (un r + nI (ix r - K))) (upd rp r (rp r + nI (K - zf_last (fun j => xs (r * 16 + j)) K))) dc xv (zc_B xs) (zc_N xo) xrs xrr xra (zc_O xp) (zc_O xt) xss sr sa (zc_N (zc_u en (r * 8 + ic r) K)) (zc_N (zc_u xk (r * 4 + r) (xk (r * 4 + r) ||| 2 ^ ic r))) (zc_N (zl_ln xl ((r * 4 + r) * 8) (ic r + 1) K)) (zc_E xm) op ol ov) (hp : post (nI (ix r) - nI K) (nI n, nI sc, nI lm, nI sv, nI rl, nI bg, zc_B xup, zc_N (zc_u ix r K), zc_N (zc_u ic r (ic r + 1)), zc_N (if st r ≤ K then st else zc_u st r K), (upd un r (un r + nI (ix r - K))), (upd rp r (rp r + nI (K - zf_last (fun j => xs (r * 16 + j)) K))), (dc'), xv, zc_B xs, zc_N xo, xrs, xrr, xra, zc_O (xp'), zc_O (xt'), (xss'), (sr'), (sa'), zc_N (zc_u en (r * 8 + ic r) K), zc_N (zc_u xk (r * 4 + r) (xk (r * 4 + r) ||| 2 ^ ic r)), zc_N (zl_ln xl ((r * 4 + r) * 8) (ic r + 1) K), zc_E xm, op, ol, ov)) : wpX_rollBack post (nI n, nI sc, nI lm, nI sv, nI rl, nI bg, zc_B xup, zc_N ix, zc_N ic, zc_N st, un, rp, dc, xv, zc_B xs, zc_N xo, xrs, xrr, xra, zc_O xp, zc_O xt, xss, sr, sa, zc_N en, zc_N xk, zc_N xl, zc_E xm, op, ol, ov) (nI r) := by
  have hi := hix r
  have hs := hst r
  have hKl := zf_last_le (fun j => !zq_orph xp xl n r (r * 16 + j)) (ix r)
  rw [hK] at hKl
  unfold wpX_rollBack
  simp (disch := omega) only [zn_k4, zn_k8, zn_k16, zn_k32, zn_m16, zn_a64, zn_a128, nI_add, nI_1, nI_clamp, vp_in_nI, true_and, and_true, forall_eq, zn_rN, zn_rB, zn_rO, zn_rE, zn_vb0, zn_vb1, zn_b1, zn_b0, zn_d1, zn_d0, zn_e1, zn_e0, zn_wN, zn_wB1, zn_wB0, zn_wO, zn_wOd, zn_wO0, zn_wE, zn_wEe, zn_wE0, zn_leT, zn_leF, zn_ltT, zn_ltF, zn_eqF, zn_eqT, zn_lt0, zn_0le, zn_d2a, zn_d2b, zn_e1a, zn_e1b, zn_10, zn_00, zn_sh4, zn_an15, true_imp_iff, false_imp_iff, imp_true_iff, not_true_eq_false, not_false_eq_true, zn_gT4, zn_gF4, zn_gT8, zn_gF8, zn_gT12, zn_gF12, zn_gT48, zn_gF48, zn_gT124, zn_gF124, zn_gT128, zn_gF128, zn_gT560, zn_gF560, zn_lT7, zn_lF7, zn_lT120, zn_lF120, zn_qT7, zn_qF7, zn_qT120, zn_qF120, zn_qT0, zn_qF0, zn_qT1, zn_qF1, zn_hT0, zn_hF0, zn_hT7, zn_hF7, zn_sb, pk_us, zn_us]
  refine zx_sound hn hr hxp hxl hix ?_
  rw [hK]
  refine zx_cut hr hKl hi (by omega) ?_
  dsimp only
  refine zx_recEnd hr hic (by rw [zn_us]; omega) hxl ?_
  dsimp only
  refine zx_replay hr (zn_ub hix (by omega)) ?_
  simp only [zn_us, nI_1]
  exact ⟨f, h _ hp⟩
theorem zy_ann209 {post : Int32 → SY → Prop} {r o K f : Nat} (hr : r < 4) (hic : ic r < 7) (hix : ∀ j, ix j ≤ 12) (hK : ix r = K) (hKo : K ≤ o) (ho : o ≤ 12) (hch : ∀ j, ch j < 124) (h : wY_announce_251 post (nI r) (nI o) (nI K) f (nI (K + 1)) (nI n) (nI sc) (nI lm) (nI sv) (nI bg) (nI rl) (zc_N gp) (zc_N gi) (zc_N gx) gv (zc_E gq) (zc_E gf) gr ga (zc_N go) (zc_B gs) (zc_B gm) (zc_B yp) (zc_B yup) (zc_N ix) (zc_N (zc_u ic r (ic r + 1))) (zc_N st) (upd un r (un r + nI (o - K))) (upd rp r (rp r + nI (K - zf_last (fun j => gs (ch (r * 16 + j))) K))) dc (zc_N ch) (zc_N (zc_u en (r * 8 + ic r) K)) (zc_B (zc_u kn (r * 32 + r * 8 + ic r) true)) (zc_B fl) (zc_N to) (zc_E sf) sr sa op ol ov) : wY_announce_209 post (nI r) (nI o) (nI K) (nI n) (nI sc) (nI lm) (nI sv) (nI bg) (nI rl) (zc_N gp) (zc_N gi) (zc_N gx) gv (zc_E gq) (zc_E gf) gr ga (zc_N go) (zc_B gs) (zc_B gm) (zc_B yp) (zc_B yup) (zc_N ix) (zc_N ic) (zc_N st) un rp dc (zc_N ch) (zc_N en) (zc_B kn) (zc_B fl) (zc_N to) (zc_E sf) sr sa op ol ov := by
  subst hK
  have hl := zf_last_le (fun j => gs (ch (r * 16 + j))) (ix r)
  have hi := hix r
  unfold wY_announce_209
  simp (disch := omega) only [zn_k4, zn_k8, zn_k16, zn_k32, zn_m16, zn_a64, zn_a128, nI_add, nI_1, nI_clamp, vp_in_nI, true_and, and_true, forall_eq, zn_rN, zn_rB, zn_rO, zn_rE, zn_vb0, zn_vb1, zn_b1, zn_b0, zn_d1, zn_d0, zn_e1, zn_e0, zn_wN, zn_wB1, zn_wB0, zn_wO, zn_wOd, zn_wO0, zn_wE, zn_wEe, zn_wE0, zn_leT, zn_leF, zn_ltT, zn_ltF, zn_eqF, zn_eqT, zn_lt0, zn_0le, zn_d2a, zn_d2b, zn_e1a, zn_e1b, zn_10, zn_00, zn_sh4, zn_an15, true_imp_iff, false_imp_iff, imp_true_iff, not_true_eq_false, not_false_eq_true, zn_gT4, zn_gF4, zn_gT8, zn_gF8, zn_gT12, zn_gF12, zn_gT48, zn_gF48, zn_gT124, zn_gF124, zn_gT128, zn_gF128, zn_gT560, zn_gF560, zn_lT7, zn_lF7, zn_lT120, zn_lF120, zn_qT7, zn_qF7, zn_qT120, zn_qF120, zn_qT0, zn_qF0, zn_qT1, zn_qF1, zn_hT0, zn_hF0, zn_hT7, zn_hF7, zn_sb, pk_us, zn_us]
  refine zy_recEnd hr hic ?_
  simp (disch := omega) only [zn_k4, zn_k8, zn_k16, zn_k32, zn_m16, zn_a64, zn_a128, nI_add, nI_1, nI_clamp, vp_in_nI, true_and, and_true, forall_eq, zn_rN, zn_rB, zn_rO, zn_rE, zn_vb0, zn_vb1, zn_b1, zn_b0, zn_d1, zn_d0, zn_e1, zn_e0, zn_wN, zn_wB1, zn_wB0, zn_wO, zn_wOd, zn_wO0, zn_wE, zn_wEe, zn_wE0, zn_leT, zn_leF, zn_ltT, zn_ltF, zn_eqF, zn_eqT, zn_lt0, zn_0le, zn_d2a, zn_d2b, zn_e1a, zn_e1b, zn_10, zn_00, zn_sh4, zn_an15, true_imp_iff, false_imp_iff, imp_true_iff, not_true_eq_false, not_false_eq_true, zn_gT4, zn_gF4, zn_gT8, zn_gF8, zn_gT12, zn_gF12, zn_gT48, zn_gF48, zn_gT124, zn_gF124, zn_gT128, zn_gF128, zn_gT560, zn_gF560, zn_lT7, zn_lF7, zn_lT120, zn_lF120, zn_qT7, zn_qF7, zn_qT120, zn_qF120, zn_qT0, zn_qF0, zn_qT1, zn_qF1, zn_hT0, zn_hF0, zn_hT7, zn_hF7, zn_sb, pk_us, zn_us]
  refine zy_base hr hix hch ?_
  simp (disch := omega) only [zn_k4, zn_k8, zn_k16, zn_k32, zn_m16, zn_a64, zn_a128, nI_add, nI_1, nI_clamp, vp_in_nI, true_and, and_true, forall_eq, zn_rN, zn_rB, zn_rO, zn_rE, zn_vb0, zn_vb1, zn_b1, zn_b0, zn_d1, zn_d0, zn_e1, zn_e0, zn_wN, zn_wB1, zn_wB0, zn_wO, zn_wOd, zn_wO0, zn_wE, zn_wEe, zn_wE0, zn_leT, zn_leF, zn_ltT, zn_ltF, zn_eqF, zn_eqT, zn_lt0, zn_0le, zn_d2a, zn_d2b, zn_e1a, zn_e1b, zn_10, zn_00, zn_sh4, zn_an15, true_imp_iff, false_imp_iff, imp_true_iff, not_true_eq_false, not_false_eq_true, zn_gT4, zn_gF4, zn_gT8, zn_gF8, zn_gT12, zn_gF12, zn_gT48, zn_gF48, zn_gT124, zn_gF124, zn_gT128, zn_gF128, zn_gT560, zn_gF560, zn_lT7, zn_lF7, zn_lT120, zn_lF120, zn_qT7, zn_qF7, zn_qT120, zn_qF120, zn_qT0, zn_qF0, zn_qT1, zn_qF1, zn_hT0, zn_hF0, zn_hT7, zn_hF7, zn_sb, pk_us, zn_us]
  exact ⟨f, h⟩
theorem zy_ann145 {post : Int32 → SY → Prop} {r o : Nat} (G : zg_G N gq gf P) (hN : N ≤ 124) (hr : r < 4) (hb3 : zr_b3 gp gi gx go ch to) (hen : ∀ j, en j ≤ 12) (ho : o ≤ 12) (hst : st r ≤ 12) (hch : ∀ j, j ≤ o → ch (r * 16 + j) + 1 ≤ N) (hp : ∀ yp : Nat → Bool, wY_announce_209 post (nI r) (nI o) (nI (zf_last (fun j => !zq_yor P gp gi gx en kn (ch (r * 16 + j) + 1) r) o)) (nI n) (nI sc) (nI lm) (nI sv) (nI bg) (nI rl) (zc_N gp) (zc_N gi) (zc_N gx) gv (zc_E gq) (zc_E gf) gr ga (zc_N go) (zc_B gs) (zc_B gm) (zc_B yp) (zc_B yup) (zc_N (zc_u ix r (zf_last (fun j => !zq_yor P gp gi gx en kn (ch (r * 16 + j) + 1) r) o))) (zc_N ic) (zc_N (if st r ≤ zf_last (fun j => !zq_yor P gp gi gx en kn (ch (r * 16 + j) + 1) r) o then st else zc_u st r (zf_last (fun j => !zq_yor P gp gi gx en kn (ch (r * 16 + j) + 1) r) o))) un rp dc (zc_N ch) (zc_N en) (zc_B kn) (zc_B fl) (zc_N to) (zc_E sf) sr sa op ol ov) : ∀ d i (yp : Nat → Bool), i + 1 + d = o + 1 → wY_announce_145 post (nI r) (nI o) (d + 1) (nI (zf_last (fun j => !zq_yor P gp gi gx en kn (ch (r * 16 + j) + 1) r) i)) (nI (i + 1)) (nI n) (nI sc) (nI lm) (nI sv) (nI bg) (nI rl) (zc_N gp) (zc_N gi) (zc_N gx) gv (zc_E gq) (zc_E gf) gr ga (zc_N go) (zc_B gs) (zc_B gm) (zc_B yp) (zc_B yup) (zc_N ix) (zc_N ic) (zc_N st) un rp dc (zc_N ch) (zc_N en) (zc_B kn) (zc_B fl) (zc_N to) (zc_E sf) sr sa op ol ov := by
  intro d
  induction d with
  | zero =>
    intro i yp h
    obtain rfl : i = o := by omega
    have hl := zf_last_le (fun j => !zq_yor P gp gi gx en kn (ch (r * 16 + j) + 1) r) i
    have h1 := hp yp
    rw [wY_announce_145]
    generalize zf_last (fun j => !zq_yor P gp gi gx en kn (ch (r * 16 + j) + 1) r) i = K at *
    by_cases hs : st r ≤ K
    · rw [if_pos hs] at h1
      simp (disch := omega) only [zn_k4, zn_k8, zn_k16, zn_k32, zn_m16, zn_a64, zn_a128, nI_add, nI_1, nI_clamp, vp_in_nI, true_and, and_true, forall_eq, zn_rN, zn_rB, zn_rO, zn_rE, zn_vb0, zn_vb1, zn_b1, zn_b0, zn_d1, zn_d0, zn_e1, zn_e0, zn_wN, zn_wB1, zn_wB0, zn_wO, zn_wOd, zn_wO0, zn_wE, zn_wEe, zn_wE0, zn_leT, zn_leF, zn_ltT, zn_ltF, zn_eqF, zn_eqT, zn_lt0, zn_0le, zn_d2a, zn_d2b, zn_e1a, zn_e1b, zn_10, zn_00, zn_sh4, zn_an15, true_imp_iff, false_imp_iff, imp_true_iff, not_true_eq_false, not_false_eq_true, zn_gT4, zn_gF4, zn_gT8, zn_gF8, zn_gT12, zn_gF12, zn_gT48, zn_gF48, zn_gT124, zn_gF124, zn_gT128, zn_gF128, zn_gT560, zn_gF560, zn_lT7, zn_lF7, zn_lT120, zn_lF120, zn_qT7, zn_qF7, zn_qT120, zn_qF120, zn_qT0, zn_qF0, zn_qT1, zn_qF1, zn_hT0, zn_hF0, zn_hT7, zn_hF7, zn_sb, pk_us, zn_us]
      exact h1
    · rw [if_neg hs] at h1
      simp (disch := omega) only [zn_k4, zn_k8, zn_k16, zn_k32, zn_m16, zn_a64, zn_a128, nI_add, nI_1, nI_clamp, vp_in_nI, true_and, and_true, forall_eq, zn_rN, zn_rB, zn_rO, zn_rE, zn_vb0, zn_vb1, zn_b1, zn_b0, zn_d1, zn_d0, zn_e1, zn_e0, zn_wN, zn_wB1, zn_wB0, zn_wO, zn_wOd, zn_wO0, zn_wE, zn_wEe, zn_wE0, zn_leT, zn_leF, zn_ltT, zn_ltF, zn_eqF, zn_eqT, zn_lt0, zn_0le, zn_d2a, zn_d2b, zn_e1a, zn_e1b, zn_10, zn_00, zn_sh4, zn_an15, true_imp_iff, false_imp_iff, imp_true_iff, not_true_eq_false, not_false_eq_true, zn_gT4, zn_gF4, zn_gT8, zn_gF8, zn_gT12, zn_gF12, zn_gT48, zn_gF48, zn_gT124, zn_gF124, zn_gT128, zn_gF128, zn_gT560, zn_gF560, zn_lT7, zn_lF7, zn_lT120, zn_lF120, zn_qT7, zn_qF7, zn_qT120, zn_qF120, zn_qT0, zn_qF0, zn_qT1, zn_qF1, zn_hT0, zn_hF0, zn_hT7, zn_hF7, zn_sb, pk_us, zn_us]
      exact h1
  | succ d ih =>
    intro i yp h
    rw [wY_announce_145]
    simp (disch := omega) only [zn_k4, zn_k8, zn_k16, zn_k32, zn_m16, zn_a64, zn_a128, nI_add, nI_1, nI_clamp, vp_in_nI, true_and, and_true, forall_eq, zn_rN, zn_rB, zn_rO, zn_rE, zn_vb0, zn_vb1, zn_b1, zn_b0, zn_d1, zn_d0, zn_e1, zn_e0, zn_wN, zn_wB1, zn_wB0, zn_wO, zn_wOd, zn_wO0, zn_wE, zn_wEe, zn_wE0, zn_leT, zn_leF, zn_ltT, zn_ltF, zn_eqF, zn_eqT, zn_lt0, zn_0le, zn_d2a, zn_d2b, zn_e1a, zn_e1b, zn_10, zn_00, zn_sh4, zn_an15, true_imp_iff, false_imp_iff, imp_true_iff, not_true_eq_false, not_false_eq_true, zn_gT4, zn_gF4, zn_gT8, zn_gF8, zn_gT12, zn_gF12, zn_gT48, zn_gF48, zn_gT124, zn_gF124, zn_gT128, zn_gF128, zn_gT560, zn_gF560, zn_lT7, zn_lF7, zn_lT120, zn_lF120, zn_qT7, zn_qF7, zn_qT120, zn_qF120, zn_qT0, zn_qF0, zn_qT1, zn_qF1, zn_hT0, zn_hF0, zn_hT7, zn_hF7, zn_sb, pk_us, zn_us]
    refine zy_orph (m := ch (r * 16 + (i + 1)) + 1) G hN (hch _ (by omega)) hr hb3.1 hb3.2.1 hb3.2.2.1 hen (fun b => ?_)
    have hi := ih (i + 1) b (by omega)
    rw [zf_last_s] at hi
    cases hq : zq_yor P gp gi gx en kn (ch (r * 16 + (i + 1)) + 1) r with
    | false =>
      rw [if_pos (by rw [hq]; rfl)] at hi
      simp (disch := omega) only [zn_k4, zn_k8, zn_k16, zn_k32, zn_m16, zn_a64, zn_a128, nI_add, nI_1, nI_clamp, vp_in_nI, true_and, and_true, forall_eq, zn_rN, zn_rB, zn_rO, zn_rE, zn_vb0, zn_vb1, zn_b1, zn_b0, zn_d1, zn_d0, zn_e1, zn_e0, zn_wN, zn_wB1, zn_wB0, zn_wO, zn_wOd, zn_wO0, zn_wE, zn_wEe, zn_wE0, zn_leT, zn_leF, zn_ltT, zn_ltF, zn_eqF, zn_eqT, zn_lt0, zn_0le, zn_d2a, zn_d2b, zn_e1a, zn_e1b, zn_10, zn_00, zn_sh4, zn_an15, true_imp_iff, false_imp_iff, imp_true_iff, not_true_eq_false, not_false_eq_true, zn_gT4, zn_gF4, zn_gT8, zn_gF8, zn_gT12, zn_gF12, zn_gT48, zn_gF48, zn_gT124, zn_gF124, zn_gT128, zn_gF128, zn_gT560, zn_gF560, zn_lT7, zn_lF7, zn_lT120, zn_lF120, zn_qT7, zn_qF7, zn_qT120, zn_qF120, zn_qT0, zn_qF0, zn_qT1, zn_qF1, zn_hT0, zn_hF0, zn_hT7, zn_hF7, zn_sb, pk_us, zn_us]
      exact hi
    | true =>
      rw [if_neg (by rw [hq]; decide)] at hi
      simp (disch := omega) only [zn_k4, zn_k8, zn_k16, zn_k32, zn_m16, zn_a64, zn_a128, nI_add, nI_1, nI_clamp, vp_in_nI, true_and, and_true, forall_eq, zn_rN, zn_rB, zn_rO, zn_rE, zn_vb0, zn_vb1, zn_b1, zn_b0, zn_d1, zn_d0, zn_e1, zn_e0, zn_wN, zn_wB1, zn_wB0, zn_wO, zn_wOd, zn_wO0, zn_wE, zn_wEe, zn_wE0, zn_leT, zn_leF, zn_ltT, zn_ltF, zn_eqF, zn_eqT, zn_lt0, zn_0le, zn_d2a, zn_d2b, zn_e1a, zn_e1b, zn_10, zn_00, zn_sh4, zn_an15, true_imp_iff, false_imp_iff, imp_true_iff, not_true_eq_false, not_false_eq_true, zn_gT4, zn_gF4, zn_gT8, zn_gF8, zn_gT12, zn_gF12, zn_gT48, zn_gF48, zn_gT124, zn_gF124, zn_gT128, zn_gF128, zn_gT560, zn_gF560, zn_lT7, zn_lF7, zn_lT120, zn_lF120, zn_qT7, zn_qF7, zn_qT120, zn_qF120, zn_qT0, zn_qF0, zn_qT1, zn_qF1, zn_hT0, zn_hF0, zn_hT7, zn_hF7, zn_sb, pk_us, zn_us]
      exact hi
theorem zy_ann0 {post : Int32 → SY → Prop} {r o : Nat} (G : zg_G N gq gf P) (hN : N ≤ 124) (hr : r < 4) (hb3 : zr_b3 gp gi gx go ch to) (hen : ∀ j, en j ≤ 12) (ho : o ≤ 12) (hst : st r ≤ 12) (hch : ∀ j, j ≤ o → ch (r * 16 + j) + 1 ≤ N) (hp : ∀ yp : Nat → Bool, wY_announce_209 post (nI r) (nI o) (nI (zf_last (fun j => !zq_yor P gp gi gx en kn (ch (r * 16 + j) + 1) r) o)) (nI n) (nI sc) (nI lm) (nI sv) (nI bg) (nI rl) (zc_N gp) (zc_N gi) (zc_N gx) gv (zc_E gq) (zc_E gf) gr ga (zc_N go) (zc_B gs) (zc_B gm) (zc_B yp) (zc_B yup) (zc_N (zc_u ix r (zf_last (fun j => !zq_yor P gp gi gx en kn (ch (r * 16 + j) + 1) r) o))) (zc_N ic) (zc_N (if st r ≤ zf_last (fun j => !zq_yor P gp gi gx en kn (ch (r * 16 + j) + 1) r) o then st else zc_u st r (zf_last (fun j => !zq_yor P gp gi gx en kn (ch (r * 16 + j) + 1) r) o))) un rp dc (zc_N ch) (zc_N en) (zc_B kn) (zc_B fl) (zc_N to) (zc_E sf) sr sa op ol ov) : wY_announce_145 post (nI r) (nI o) (o + 1 + 1) (nI 0) (nI 0) (nI n) (nI sc) (nI lm) (nI sv) (nI bg) (nI rl) (zc_N gp) (zc_N gi) (zc_N gx) gv (zc_E gq) (zc_E gf) gr ga (zc_N go) (zc_B gs) (zc_B gm) (zc_B yp) (zc_B yup) (zc_N ix) (zc_N ic) (zc_N st) un rp dc (zc_N ch) (zc_N en) (zc_B kn) (zc_B fl) (zc_N to) (zc_E sf) sr sa op ol ov := by
  rw [wY_announce_145]
  simp (disch := omega) only [zn_k4, zn_k8, zn_k16, zn_k32, zn_m16, zn_a64, zn_a128, nI_add, nI_1, nI_clamp, vp_in_nI, true_and, and_true, forall_eq, zn_rN, zn_rB, zn_rO, zn_rE, zn_vb0, zn_vb1, zn_b1, zn_b0, zn_d1, zn_d0, zn_e1, zn_e0, zn_wN, zn_wB1, zn_wB0, zn_wO, zn_wOd, zn_wO0, zn_wE, zn_wEe, zn_wE0, zn_leT, zn_leF, zn_ltT, zn_ltF, zn_eqF, zn_eqT, zn_lt0, zn_0le, zn_d2a, zn_d2b, zn_e1a, zn_e1b, zn_10, zn_00, zn_sh4, zn_an15, true_imp_iff, false_imp_iff, imp_true_iff, not_true_eq_false, not_false_eq_true, zn_gT4, zn_gF4, zn_gT8, zn_gF8, zn_gT12, zn_gF12, zn_gT48, zn_gF48, zn_gT124, zn_gF124, zn_gT128, zn_gF128, zn_gT560, zn_gF560, zn_lT7, zn_lF7, zn_lT120, zn_lF120, zn_qT7, zn_qF7, zn_qT120, zn_qF120, zn_qT0, zn_qF0, zn_qT1, zn_qF1, zn_hT0, zn_hF0, zn_hT7, zn_hF7, zn_sb, pk_us, zn_us]
  refine zy_orph (m := ch (r * 16 + 0) + 1) G hN (hch _ (by omega)) hr hb3.1 hb3.2.1 hb3.2.2.1 hen (fun b => ?_)
  have hi : wY_announce_145 post (nI r) (nI o) (o + 1) (nI 0) (nI (0 + 1)) (nI n) (nI sc) (nI lm) (nI sv) (nI bg) (nI rl) (zc_N gp) (zc_N gi) (zc_N gx) gv (zc_E gq) (zc_E gf) gr ga (zc_N go) (zc_B gs) (zc_B gm) (zc_B (b)) (zc_B yup) (zc_N ix) (zc_N ic) (zc_N st) un rp dc (zc_N ch) (zc_N en) (zc_B kn) (zc_B fl) (zc_N to) (zc_E sf) sr sa op ol ov := zy_ann145 G hN hr hb3 hen ho hst hch hp o 0 b (by omega)
  cases hq : zq_yor P gp gi gx en kn (ch (r * 16 + 0) + 1) r with
  | false =>
    simp (disch := omega) only [zn_k4, zn_k8, zn_k16, zn_k32, zn_m16, zn_a64, zn_a128, nI_add, nI_1, nI_clamp, vp_in_nI, true_and, and_true, forall_eq, zn_rN, zn_rB, zn_rO, zn_rE, zn_vb0, zn_vb1, zn_b1, zn_b0, zn_d1, zn_d0, zn_e1, zn_e0, zn_wN, zn_wB1, zn_wB0, zn_wO, zn_wOd, zn_wO0, zn_wE, zn_wEe, zn_wE0, zn_leT, zn_leF, zn_ltT, zn_ltF, zn_eqF, zn_eqT, zn_lt0, zn_0le, zn_d2a, zn_d2b, zn_e1a, zn_e1b, zn_10, zn_00, zn_sh4, zn_an15, true_imp_iff, false_imp_iff, imp_true_iff, not_true_eq_false, not_false_eq_true, zn_gT4, zn_gF4, zn_gT8, zn_gF8, zn_gT12, zn_gF12, zn_gT48, zn_gF48, zn_gT124, zn_gF124, zn_gT128, zn_gF128, zn_gT560, zn_gF560, zn_lT7, zn_lF7, zn_lT120, zn_lF120, zn_qT7, zn_qF7, zn_qT120, zn_qF120, zn_qT0, zn_qF0, zn_qT1, zn_qF1, zn_hT0, zn_hF0, zn_hT7, zn_hF7, zn_sb, pk_us, zn_us]
    exact hi
  | true =>
    simp (disch := omega) only [zn_k4, zn_k8, zn_k16, zn_k32, zn_m16, zn_a64, zn_a128, nI_add, nI_1, nI_clamp, vp_in_nI, true_and, and_true, forall_eq, zn_rN, zn_rB, zn_rO, zn_rE, zn_vb0, zn_vb1, zn_b1, zn_b0, zn_d1, zn_d0, zn_e1, zn_e0, zn_wN, zn_wB1, zn_wB0, zn_wO, zn_wOd, zn_wO0, zn_wE, zn_wEe, zn_wE0, zn_leT, zn_leF, zn_ltT, zn_ltF, zn_eqF, zn_eqT, zn_lt0, zn_0le, zn_d2a, zn_d2b, zn_e1a, zn_e1b, zn_10, zn_00, zn_sh4, zn_an15, true_imp_iff, false_imp_iff, imp_true_iff, not_true_eq_false, not_false_eq_true, zn_gT4, zn_gF4, zn_gT8, zn_gF8, zn_gT12, zn_gF12, zn_gT48, zn_gF48, zn_gT124, zn_gF124, zn_gT128, zn_gF128, zn_gT560, zn_gF560, zn_lT7, zn_lF7, zn_lT120, zn_lF120, zn_qT7, zn_qF7, zn_qT120, zn_qF120, zn_qT0, zn_qF0, zn_qT1, zn_qF1, zn_hT0, zn_hF0, zn_hT7, zn_hF7, zn_sb, pk_us, zn_us]
    exact hi
/-- what the cut-off receipts of r still hold -/
def zr_RC (r K o N : Nat) (ch gp gf xp : Nat → Nat) (gr ga xrs xrr xra : Nat → Int32) (D : Nat → Nat → Nat) : Prop := ∀ i, K < i → i ≤ o → ch (r * 16 + i) < N ∧ (∀ x, x < 4 → xp ((64 + (r * 16 + i)) * 4 + x) = D (gf (ch (r * 16 + i))) x) ∧ xrs (r * 16 + i) = zc_s gp (gf (ch (r * 16 + i))) ∧ xrr (r * 16 + i) = gr (ch (r * 16 + i)) ∧ xra (r * 16 + i) = ga (ch (r * 16 + i))
theorem zr_ret {r K o : Nat} (hr : r < n) (ho : o ≤ 12) : ∀ d i (dc : Nat → Int32) (xt : Nat → Nat) (xss sr sa : Nat → Int32) (xp : Nat → Nat) (fl : Nat → Bool) (to sf : Nat → Nat), zr_F n sc lm sv rl bg ix ic st en xo xp xt xk xl xm gp gi gx go ch to gq gf sf xup yup kn fl xs gs gm gv gr ga xv xrs xrr xra xss P D → zr_RC r K o (n + bg) ch gp gf xp gr ga xrs xrr xra D → K < i → i + d = o + 1 → ∃ dc' xt' xss' sr' sa' xp' fl' to' sf', (zr_F n sc lm sv rl bg ix ic st en xo (xp') (xt') xk xl xm gp gi gx go ch (to') gq gf (sf') xup yup kn (fl') xs gs gm gv gr ga xv xrs xrr xra (xss') P D) ∧ (∀ Q : SX → Prop, Q (nI n, nI sc, nI lm, nI sv, nI rl, nI bg, zc_B xup, zc_N ix, zc_N ic, zc_N st, un, rp, (dc'), xv, zc_B xs, zc_N xo, xrs, xrr, xra, zc_O (xp'), zc_O (xt'), (xss'), (sr'), (sa'), zc_N en, zc_N xk, zc_N xl, zc_E xm, op, ol, ov) → wX_returnReceipts_3 Q (nI r) (nI o) (d + 1) (nI i) (nI n) (nI sc) (nI lm) (nI sv) (nI rl) (nI bg) (zc_B xup) (zc_N ix) (zc_N ic) (zc_N st) un rp dc xv (zc_B xs) (zc_N xo) xrs xrr xra (zc_O xp) (zc_O xt) xss sr sa (zc_N en) (zc_N xk) (zc_N xl) (zc_E xm) op ol ov) ∧ (∀ Q : Int32 → SY → Prop, (∀ b : Nat → Bool, Q (nI o - nI K) (nI n, nI sc, nI lm, nI sv, nI bg, nI rl, zc_N gp, zc_N gi, zc_N gx, gv, zc_E gq, zc_E gf, gr, ga, zc_N go, zc_B gs, zc_B gm, zc_B (b), zc_B yup, zc_N ix, zc_N ic, zc_N st, un, rp, (dc'), zc_N ch, zc_N en, zc_B kn, zc_B (fl'), zc_N (to'), zc_E (sf'), (sr'), (sa'), op, ol, ov)) → ∀ yp : Nat → Bool, wY_announce_251 Q (nI r) (nI o) (nI K) (d + 1) (nI i) (nI n) (nI sc) (nI lm) (nI sv) (nI bg) (nI rl) (zc_N gp) (zc_N gi) (zc_N gx) gv (zc_E gq) (zc_E gf) gr ga (zc_N go) (zc_B gs) (zc_B gm) (zc_B yp) (zc_B yup) (zc_N ix) (zc_N ic) (zc_N st) un rp dc (zc_N ch) (zc_N en) (zc_B kn) (zc_B fl) (zc_N to) (zc_E sf) sr sa op ol ov) := by
  intro d
  induction d with
  | zero =>
    intro i dc xt xss sr sa xp fl to sf F RC hK h
    have hlt : nI o < nI i := nI_lt (by omega) (by omega)
    exact ⟨dc, xt, xss, sr, sa, xp, fl, to, sf, F, fun Q hQ => br_t hlt hQ, fun Q hQ yp => br_t hlt (hQ yp)⟩
  | succ d ih =>
    intro i dc xt xss sr sa xp fl to sf F RC hK h
    have F0 := F
    obtain ⟨hnum, hb1, hb2, hb3, hup, hk1, hk2, hG, hiv, hD, hcur, hch, hKK, hv, hd, hsl, hm, hsm, hfr, hsv⟩ := F
    obtain ⟨hn, hsc, hlm, hsvn, hrl, hbg⟩ := hnum
    have hrc := RC i hK (by omega)
    have hgf := hG.2.1 _ hrc.1
    have hor := zr_orph (v := 64 + (r * 16 + i)) (m := gf (ch (r * 16 + i))) hn.2 (by omega) hb3 hk1 hG hiv hD (by omega) hr hrc.2.1
    have hff := zr_ffF hsl
    cases hz : zq_yor P gp gi gx en kn (gf (ch (r * 16 + i))) r with
    | true =>
      rw [hz] at hor
      obtain ⟨dc', xt', xss', sr', sa', xp', fl', to', sf', F1, hX, hY⟩ := ih (i + 1) (upd dc r (dc r + 1)) xt xss sr sa xp fl to sf F0 RC (by omega) (by omega)
      refine ⟨dc', xt', xss', sr', sa', xp', fl', to', sf', F1, fun Q hQ => ?_, fun Q hQ yp => ?_⟩
      · have := hX Q hQ
        rw [wX_returnReceipts_3]
        simp (disch := omega) only [zn_k4, zn_k8, zn_k16, zn_k32, zn_m16, zn_a64, zn_a128, nI_add, nI_1, nI_clamp, vp_in_nI, true_and, and_true, forall_eq, zn_rN, zn_rB, zn_rO, zn_rE, zn_vb0, zn_vb1, zn_b1, zn_b0, zn_d1, zn_d0, zn_e1, zn_e0, zn_wN, zn_wB1, zn_wB0, zn_wO, zn_wOd, zn_wO0, zn_wE, zn_wEe, zn_wE0, zn_leT, zn_leF, zn_ltT, zn_ltF, zn_eqF, zn_eqT, zn_lt0, zn_0le, zn_d2a, zn_d2b, zn_e1a, zn_e1b, zn_10, zn_00, zn_sh4, zn_an15, true_imp_iff, false_imp_iff, imp_true_iff, not_true_eq_false, not_false_eq_true, zn_gT4, zn_gF4, zn_gT8, zn_gF8, zn_gT12, zn_gF12, zn_gT48, zn_gF48, zn_gT124, zn_gF124, zn_gT128, zn_gF128, zn_gT560, zn_gF560, zn_lT7, zn_lF7, zn_lT120, zn_lF120, zn_qT7, zn_qF7, zn_qT120, zn_qF120, zn_qT0, zn_qF0, zn_qT1, zn_qF1, zn_hT0, zn_hF0, zn_hT7, zn_hF7, zn_sb, pk_us, zn_us]
        refine zx_orph hn.2 (by omega) (by omega) hb2.2.1 hb2.2.2.2.2.1 ?_
        rw [hor]
        simp (disch := omega) only [zn_k4, zn_k8, zn_k16, zn_k32, zn_m16, zn_a64, zn_a128, nI_add, nI_1, nI_clamp, vp_in_nI, true_and, and_true, forall_eq, zn_rN, zn_rB, zn_rO, zn_rE, zn_vb0, zn_vb1, zn_b1, zn_b0, zn_d1, zn_d0, zn_e1, zn_e0, zn_wN, zn_wB1, zn_wB0, zn_wO, zn_wOd, zn_wO0, zn_wE, zn_wEe, zn_wE0, zn_leT, zn_leF, zn_ltT, zn_ltF, zn_eqF, zn_eqT, zn_lt0, zn_0le, zn_d2a, zn_d2b, zn_e1a, zn_e1b, zn_10, zn_00, zn_sh4, zn_an15, true_imp_iff, false_imp_iff, imp_true_iff, not_true_eq_false, not_false_eq_true, zn_gT4, zn_gF4, zn_gT8, zn_gF8, zn_gT12, zn_gF12, zn_gT48, zn_gF48, zn_gT124, zn_gF124, zn_gT128, zn_gF128, zn_gT560, zn_gF560, zn_lT7, zn_lF7, zn_lT120, zn_lF120, zn_qT7, zn_qF7, zn_qT120, zn_qF120, zn_qT0, zn_qF0, zn_qT1, zn_qF1, zn_hT0, zn_hF0, zn_hT7, zn_hF7, zn_sb, pk_us, zn_us]
        exact this
      · rw [wY_announce_251]
        simp (disch := omega) only [zn_k4, zn_k8, zn_k16, zn_k32, zn_m16, zn_a64, zn_a128, nI_add, nI_1, nI_clamp, vp_in_nI, true_and, and_true, forall_eq, zn_rN, zn_rB, zn_rO, zn_rE, zn_vb0, zn_vb1, zn_b1, zn_b0, zn_d1, zn_d0, zn_e1, zn_e0, zn_wN, zn_wB1, zn_wB0, zn_wO, zn_wOd, zn_wO0, zn_wE, zn_wEe, zn_wE0, zn_leT, zn_leF, zn_ltT, zn_ltF, zn_eqF, zn_eqT, zn_lt0, zn_0le, zn_d2a, zn_d2b, zn_e1a, zn_e1b, zn_10, zn_00, zn_sh4, zn_an15, true_imp_iff, false_imp_iff, imp_true_iff, not_true_eq_false, not_false_eq_true, zn_gT4, zn_gF4, zn_gT8, zn_gF8, zn_gT12, zn_gF12, zn_gT48, zn_gF48, zn_gT124, zn_gF124, zn_gT128, zn_gF128, zn_gT560, zn_gF560, zn_lT7, zn_lF7, zn_lT120, zn_lF120, zn_qT7, zn_qF7, zn_qT120, zn_qF120, zn_qT0, zn_qF0, zn_qT1, zn_qF1, zn_hT0, zn_hF0, zn_hT7, zn_hF7, zn_sb, pk_us, zn_us]
        refine zy_orph (m := gf (ch (r * 16 + i))) hG (by omega) (by omega) (by omega) hb3.1 hb3.2.1 hb3.2.2.1 hb1.2.2.2 (fun b => ?_)
        have := hY Q hQ b
        rw [hz]
        simp (disch := omega) only [zn_k4, zn_k8, zn_k16, zn_k32, zn_m16, zn_a64, zn_a128, nI_add, nI_1, nI_clamp, vp_in_nI, true_and, and_true, forall_eq, zn_rN, zn_rB, zn_rO, zn_rE, zn_vb0, zn_vb1, zn_b1, zn_b0, zn_d1, zn_d0, zn_e1, zn_e0, zn_wN, zn_wB1, zn_wB0, zn_wO, zn_wOd, zn_wO0, zn_wE, zn_wEe, zn_wE0, zn_leT, zn_leF, zn_ltT, zn_ltF, zn_eqF, zn_eqT, zn_lt0, zn_0le, zn_d2a, zn_d2b, zn_e1a, zn_e1b, zn_10, zn_00, zn_sh4, zn_an15, true_imp_iff, false_imp_iff, imp_true_iff, not_true_eq_false, not_false_eq_true, zn_gT4, zn_gF4, zn_gT8, zn_gF8, zn_gT12, zn_gF12, zn_gT48, zn_gF48, zn_gT124, zn_gF124, zn_gT128, zn_gF128, zn_gT560, zn_gF560, zn_lT7, zn_lF7, zn_lT120, zn_lF120, zn_qT7, zn_qF7, zn_qT120, zn_qF120, zn_qT0, zn_qF0, zn_qT1, zn_qF1, zn_hT0, zn_hF0, zn_hT7, zn_hF7, zn_sb, pk_us, zn_us]
        exact this
    | false =>
      rw [hz] at hor
      have hfl := zf_ff_ge (fun s => decide (xt s = 0)) sc 0
      by_cases hs : zf_ff (fun s => decide (xt s = 0)) sc 0 = sc
      · obtain ⟨dc', xt', xss', sr', sa', xp', fl', to', sf', F1, hX, hY⟩ := ih (i + 1) dc xt xss sr sa xp fl to sf F0 RC (by omega) (by omega)
        refine ⟨dc', xt', xss', sr', sa', xp', fl', to', sf', F1, fun Q hQ => ?_, fun Q hQ yp => ?_⟩
        · have := hX Q hQ
          rw [wX_returnReceipts_3]
          simp (disch := omega) only [zn_k4, zn_k8, zn_k16, zn_k32, zn_m16, zn_a64, zn_a128, nI_add, nI_1, nI_clamp, vp_in_nI, true_and, and_true, forall_eq, zn_rN, zn_rB, zn_rO, zn_rE, zn_vb0, zn_vb1, zn_b1, zn_b0, zn_d1, zn_d0, zn_e1, zn_e0, zn_wN, zn_wB1, zn_wB0, zn_wO, zn_wOd, zn_wO0, zn_wE, zn_wEe, zn_wE0, zn_leT, zn_leF, zn_ltT, zn_ltF, zn_eqF, zn_eqT, zn_lt0, zn_0le, zn_d2a, zn_d2b, zn_e1a, zn_e1b, zn_10, zn_00, zn_sh4, zn_an15, true_imp_iff, false_imp_iff, imp_true_iff, not_true_eq_false, not_false_eq_true, zn_gT4, zn_gF4, zn_gT8, zn_gF8, zn_gT12, zn_gF12, zn_gT48, zn_gF48, zn_gT124, zn_gF124, zn_gT128, zn_gF128, zn_gT560, zn_gF560, zn_lT7, zn_lF7, zn_lT120, zn_lF120, zn_qT7, zn_qF7, zn_qT120, zn_qF120, zn_qT0, zn_qF0, zn_qT1, zn_qF1, zn_hT0, zn_hF0, zn_hT7, zn_hF7, zn_sb, pk_us, zn_us]
          refine zx_orph hn.2 (by omega) (by omega) hb2.2.1 hb2.2.2.2.2.1 ?_
          rw [hor]
          simp (disch := omega) only [zn_k4, zn_k8, zn_k16, zn_k32, zn_m16, zn_a64, zn_a128, nI_add, nI_1, nI_clamp, vp_in_nI, true_and, and_true, forall_eq, zn_rN, zn_rB, zn_rO, zn_rE, zn_vb0, zn_vb1, zn_b1, zn_b0, zn_d1, zn_d0, zn_e1, zn_e0, zn_wN, zn_wB1, zn_wB0, zn_wO, zn_wOd, zn_wO0, zn_wE, zn_wEe, zn_wE0, zn_leT, zn_leF, zn_ltT, zn_ltF, zn_eqF, zn_eqT, zn_lt0, zn_0le, zn_d2a, zn_d2b, zn_e1a, zn_e1b, zn_10, zn_00, zn_sh4, zn_an15, true_imp_iff, false_imp_iff, imp_true_iff, not_true_eq_false, not_false_eq_true, zn_gT4, zn_gF4, zn_gT8, zn_gF8, zn_gT12, zn_gF12, zn_gT48, zn_gF48, zn_gT124, zn_gF124, zn_gT128, zn_gF128, zn_gT560, zn_gF560, zn_lT7, zn_lF7, zn_lT120, zn_lF120, zn_qT7, zn_qF7, zn_qT120, zn_qF120, zn_qT0, zn_qF0, zn_qT1, zn_qF1, zn_hT0, zn_hF0, zn_hT7, zn_hF7, zn_sb, pk_us, zn_us]
          refine zx_place hsc.2 hb2.2.2.1 (fun _ => br_t (by decide) ?_) (fun s hs' hlt => absurd hlt (by omega))
          exact this
        · rw [wY_announce_251]
          simp (disch := omega) only [zn_k4, zn_k8, zn_k16, zn_k32, zn_m16, zn_a64, zn_a128, nI_add, nI_1, nI_clamp, vp_in_nI, true_and, and_true, forall_eq, zn_rN, zn_rB, zn_rO, zn_rE, zn_vb0, zn_vb1, zn_b1, zn_b0, zn_d1, zn_d0, zn_e1, zn_e0, zn_wN, zn_wB1, zn_wB0, zn_wO, zn_wOd, zn_wO0, zn_wE, zn_wEe, zn_wE0, zn_leT, zn_leF, zn_ltT, zn_ltF, zn_eqF, zn_eqT, zn_lt0, zn_0le, zn_d2a, zn_d2b, zn_e1a, zn_e1b, zn_10, zn_00, zn_sh4, zn_an15, true_imp_iff, false_imp_iff, imp_true_iff, not_true_eq_false, not_false_eq_true, zn_gT4, zn_gF4, zn_gT8, zn_gF8, zn_gT12, zn_gF12, zn_gT48, zn_gF48, zn_gT124, zn_gF124, zn_gT128, zn_gF128, zn_gT560, zn_gF560, zn_lT7, zn_lF7, zn_lT120, zn_lF120, zn_qT7, zn_qF7, zn_qT120, zn_qF120, zn_qT0, zn_qF0, zn_qT1, zn_qF1, zn_hT0, zn_hF0, zn_hT7, zn_hF7, zn_sb, pk_us, zn_us]
          refine zy_orph (m := gf (ch (r * 16 + i))) hG (by omega) (by omega) (by omega) hb3.1 hb3.2.1 hb3.2.2.1 hb1.2.2.2 (fun b => ?_)
          have := hY Q hQ b
          rw [hz]
          simp (disch := omega) only [zn_k4, zn_k8, zn_k16, zn_k32, zn_m16, zn_a64, zn_a128, nI_add, nI_1, nI_clamp, vp_in_nI, true_and, and_true, forall_eq, zn_rN, zn_rB, zn_rO, zn_rE, zn_vb0, zn_vb1, zn_b1, zn_b0, zn_d1, zn_d0, zn_e1, zn_e0, zn_wN, zn_wB1, zn_wB0, zn_wO, zn_wOd, zn_wO0, zn_wE, zn_wEe, zn_wE0, zn_leT, zn_leF, zn_ltT, zn_ltF, zn_eqF, zn_eqT, zn_lt0, zn_0le, zn_d2a, zn_d2b, zn_e1a, zn_e1b, zn_10, zn_00, zn_sh4, zn_an15, true_imp_iff, false_imp_iff, imp_true_iff, not_true_eq_false, not_false_eq_true, zn_gT4, zn_gF4, zn_gT8, zn_gF8, zn_gT12, zn_gF12, zn_gT48, zn_gF48, zn_gT124, zn_gF124, zn_gT128, zn_gF128, zn_gT560, zn_gF560, zn_lT7, zn_lF7, zn_lT120, zn_lF120, zn_qT7, zn_qF7, zn_qT120, zn_qF120, zn_qT0, zn_qF0, zn_qT1, zn_qF1, zn_hT0, zn_hF0, zn_hT7, zn_hF7, zn_sb, pk_us, zn_us]
          exact zy_put (m := gf (ch (r * 16 + i))) hsc.2 (fun _ => this) (fun s hs' hlt => absurd hlt (by rw [hff] at hs; omega))
      · have hF := zr_putF (s := zf_ff (fun s => decide (xt s = 0)) sc 0) (m := gf (ch (r * 16 + i))) (t := r) (xp' := zv_cp xp (64 + (r * 16 + i)) (128 + zf_ff (fun s => decide (xt s = 0)) sc 0) 4) F0 hr (by omega) (by omega) (zv_cp_b hb2.2.1 _ _ _) (fun x hx => by rw [zv_cp_i _ _ _ _ hx]; exact hrc.2.1 x hx) (fun c x hx hc => zv_cp_o _ hx hc)
        have RC' : zr_RC r K o (n + bg) ch gp gf (zv_cp xp (64 + (r * 16 + i)) (128 + zf_ff (fun s => decide (xt s = 0)) sc 0) 4) gr ga xrs xrr xra D := by
          intro j hj hjo
          have h1 := RC j hj hjo
          refine ⟨h1.1, fun x hx => ?_, h1.2.2⟩
          rw [zv_cp_o _ hx (by omega)]
          exact h1.2.1 x hx
        obtain ⟨dc', xt', xss', sr', sa', xp', fl', to', sf', F1, hX, hY⟩ := ih (i + 1) dc _ _ (upd sr (zf_ff (fun s => decide (xt s = 0)) sc 0) (gr (ch (r * 16 + i)))) (upd sa (zf_ff (fun s => decide (xt s = 0)) sc 0) (ga (ch (r * 16 + i)))) _ _ _ _ hF RC' (by omega) (by omega)
        refine ⟨dc', xt', xss', sr', sa', xp', fl', to', sf', F1, fun Q hQ => ?_, fun Q hQ yp => ?_⟩
        · have := hX Q hQ
          rw [wX_returnReceipts_3]
          simp (disch := omega) only [zn_k4, zn_k8, zn_k16, zn_k32, zn_m16, zn_a64, zn_a128, nI_add, nI_1, nI_clamp, vp_in_nI, true_and, and_true, forall_eq, zn_rN, zn_rB, zn_rO, zn_rE, zn_vb0, zn_vb1, zn_b1, zn_b0, zn_d1, zn_d0, zn_e1, zn_e0, zn_wN, zn_wB1, zn_wB0, zn_wO, zn_wOd, zn_wO0, zn_wE, zn_wEe, zn_wE0, zn_leT, zn_leF, zn_ltT, zn_ltF, zn_eqF, zn_eqT, zn_lt0, zn_0le, zn_d2a, zn_d2b, zn_e1a, zn_e1b, zn_10, zn_00, zn_sh4, zn_an15, true_imp_iff, false_imp_iff, imp_true_iff, not_true_eq_false, not_false_eq_true, zn_gT4, zn_gF4, zn_gT8, zn_gF8, zn_gT12, zn_gF12, zn_gT48, zn_gF48, zn_gT124, zn_gF124, zn_gT128, zn_gF128, zn_gT560, zn_gF560, zn_lT7, zn_lF7, zn_lT120, zn_lF120, zn_qT7, zn_qF7, zn_qT120, zn_qF120, zn_qT0, zn_qF0, zn_qT1, zn_qF1, zn_hT0, zn_hF0, zn_hT7, zn_hF7, zn_sb, pk_us, zn_us]
          refine zx_orph hn.2 (by omega) (by omega) hb2.2.1 hb2.2.2.2.2.1 ?_
          rw [hor]
          simp (disch := omega) only [zn_k4, zn_k8, zn_k16, zn_k32, zn_m16, zn_a64, zn_a128, nI_add, nI_1, nI_clamp, vp_in_nI, true_and, and_true, forall_eq, zn_rN, zn_rB, zn_rO, zn_rE, zn_vb0, zn_vb1, zn_b1, zn_b0, zn_d1, zn_d0, zn_e1, zn_e0, zn_wN, zn_wB1, zn_wB0, zn_wO, zn_wOd, zn_wO0, zn_wE, zn_wEe, zn_wE0, zn_leT, zn_leF, zn_ltT, zn_ltF, zn_eqF, zn_eqT, zn_lt0, zn_0le, zn_d2a, zn_d2b, zn_e1a, zn_e1b, zn_10, zn_00, zn_sh4, zn_an15, true_imp_iff, false_imp_iff, imp_true_iff, not_true_eq_false, not_false_eq_true, zn_gT4, zn_gF4, zn_gT8, zn_gF8, zn_gT12, zn_gF12, zn_gT48, zn_gF48, zn_gT124, zn_gF124, zn_gT128, zn_gF128, zn_gT560, zn_gF560, zn_lT7, zn_lF7, zn_lT120, zn_lF120, zn_qT7, zn_qF7, zn_qT120, zn_qF120, zn_qT0, zn_qF0, zn_qT1, zn_qF1, zn_hT0, zn_hF0, zn_hT7, zn_hF7, zn_sb, pk_us, zn_us]
          refine zx_place hsc.2 hb2.2.2.1 (fun h1 => absurd h1 hs) (fun s hs' hlt => ?_)
          subst hs'
          rw [hrc.2.2.1, hrc.2.2.2.1, hrc.2.2.2.2]
          simp (disch := omega) only [zn_k4, zn_k8, zn_k16, zn_k32, zn_m16, zn_a64, zn_a128, nI_add, nI_1, nI_clamp, vp_in_nI, true_and, and_true, forall_eq, zn_rN, zn_rB, zn_rO, zn_rE, zn_vb0, zn_vb1, zn_b1, zn_b0, zn_d1, zn_d0, zn_e1, zn_e0, zn_wN, zn_wB1, zn_wB0, zn_wO, zn_wOd, zn_wO0, zn_wE, zn_wEe, zn_wE0, zn_leT, zn_leF, zn_ltT, zn_ltF, zn_eqF, zn_eqT, zn_lt0, zn_0le, zn_d2a, zn_d2b, zn_e1a, zn_e1b, zn_10, zn_00, zn_sh4, zn_an15, true_imp_iff, false_imp_iff, imp_true_iff, not_true_eq_false, not_false_eq_true, zn_gT4, zn_gF4, zn_gT8, zn_gF8, zn_gT12, zn_gF12, zn_gT48, zn_gF48, zn_gT124, zn_gF124, zn_gT128, zn_gF128, zn_gT560, zn_gF560, zn_lT7, zn_lF7, zn_lT120, zn_lF120, zn_qT7, zn_qF7, zn_qT120, zn_qF120, zn_qT0, zn_qF0, zn_qT1, zn_qF1, zn_hT0, zn_hF0, zn_hT7, zn_hF7, zn_sb, pk_us, zn_us]
          refine zx_copy (by omega) (by omega) (by omega) ?_
          exact this
        · rw [wY_announce_251]
          simp (disch := omega) only [zn_k4, zn_k8, zn_k16, zn_k32, zn_m16, zn_a64, zn_a128, nI_add, nI_1, nI_clamp, vp_in_nI, true_and, and_true, forall_eq, zn_rN, zn_rB, zn_rO, zn_rE, zn_vb0, zn_vb1, zn_b1, zn_b0, zn_d1, zn_d0, zn_e1, zn_e0, zn_wN, zn_wB1, zn_wB0, zn_wO, zn_wOd, zn_wO0, zn_wE, zn_wEe, zn_wE0, zn_leT, zn_leF, zn_ltT, zn_ltF, zn_eqF, zn_eqT, zn_lt0, zn_0le, zn_d2a, zn_d2b, zn_e1a, zn_e1b, zn_10, zn_00, zn_sh4, zn_an15, true_imp_iff, false_imp_iff, imp_true_iff, not_true_eq_false, not_false_eq_true, zn_gT4, zn_gF4, zn_gT8, zn_gF8, zn_gT12, zn_gF12, zn_gT48, zn_gF48, zn_gT124, zn_gF124, zn_gT128, zn_gF128, zn_gT560, zn_gF560, zn_lT7, zn_lF7, zn_lT120, zn_lF120, zn_qT7, zn_qF7, zn_qT120, zn_qF120, zn_qT0, zn_qF0, zn_qT1, zn_qF1, zn_hT0, zn_hF0, zn_hT7, zn_hF7, zn_sb, pk_us, zn_us]
          refine zy_orph (m := gf (ch (r * 16 + i))) hG (by omega) (by omega) (by omega) hb3.1 hb3.2.1 hb3.2.2.1 hb1.2.2.2 (fun b => ?_)
          have := hY Q hQ b
          rw [hz]
          simp (disch := omega) only [zn_k4, zn_k8, zn_k16, zn_k32, zn_m16, zn_a64, zn_a128, nI_add, nI_1, nI_clamp, vp_in_nI, true_and, and_true, forall_eq, zn_rN, zn_rB, zn_rO, zn_rE, zn_vb0, zn_vb1, zn_b1, zn_b0, zn_d1, zn_d0, zn_e1, zn_e0, zn_wN, zn_wB1, zn_wB0, zn_wO, zn_wOd, zn_wO0, zn_wE, zn_wEe, zn_wE0, zn_leT, zn_leF, zn_ltT, zn_ltF, zn_eqF, zn_eqT, zn_lt0, zn_0le, zn_d2a, zn_d2b, zn_e1a, zn_e1b, zn_10, zn_00, zn_sh4, zn_an15, true_imp_iff, false_imp_iff, imp_true_iff, not_true_eq_false, not_false_eq_true, zn_gT4, zn_gF4, zn_gT8, zn_gF8, zn_gT12, zn_gF12, zn_gT48, zn_gF48, zn_gT124, zn_gF124, zn_gT128, zn_gF128, zn_gT560, zn_gF560, zn_lT7, zn_lF7, zn_lT120, zn_lF120, zn_qT7, zn_qF7, zn_qT120, zn_qF120, zn_qT0, zn_qF0, zn_qT1, zn_qF1, zn_hT0, zn_hF0, zn_hT7, zn_hF7, zn_sb, pk_us, zn_us]
          refine zy_put (m := gf (ch (r * 16 + i))) hsc.2 (fun h1 => absurd h1 (by rw [← hff]; exact hs)) (fun s hs' hlt => ?_)
          rw [← hff] at hs'
          subst hs'
          exact this
end
end
section
/-! announce: the whole -/
theorem zn_uud {f : Nat → Bool} {p : Nat} (h : f p = true) : zc_u (zc_u f p false) p true = f := by
  funext j
  unfold zc_u
  by_cases hj : j = p
  · rw [if_pos hj, hj, h]
  · rw [if_neg hj, if_neg hj]
theorem zn_uuf {f : Nat → Bool} {p : Nat} (h : f p = false) : zc_u (zc_u f p true) p false = f := by
  funext j
  unfold zc_u
  by_cases hj : j = p
  · rw [if_pos hj, hj, h]
  · rw [if_neg hj, if_neg hj]
section
variable {n sc lm sv rl bg : Nat} {xup xs gs gm yp yup kn fl : Nat → Bool} {ix ic st xo xp xt en xk xl xm gp gi gx gq gf go ch to sf : Nat → Nat} {un rp dc xv xrs xrr xra xss sr sa op ol ov gv gr ga : Nat → Int32}
variable {P : Nat → Nat → Bool} {D : Nat → Nat → Nat} {k N : Nat}
theorem zr_doom {x r c : Nat} (F : zr_F n sc lm sv rl bg ix ic st en xo xp xt xk xl xm gp gi gx go ch to gq gf sf xup yup kn fl xs gs gm gv gr ga xv xrs xrr xra xss P D) (hx : x < n) (hr : r < n) (hc : c < ic x) : zq_yor P gp gi gx en (zc_u kn (r * 32 + x * 8 + c) true) (ch (r * 16 + ix r) + 1) r = zd_dm (xp ((r * 16 + ix r) * 4 + x)) c (en (x * 8 + c)) := by
  obtain ⟨hnum, hb1, hb2, hb3, hup, hk1, hk2, hG, hiv, hD, hcur, hch, hK, hv, hd, hsl, hm, hsm, hfr, hsv⟩ := F
  obtain ⟨hn, hsc, hlm, hsvn, hrl, hbg⟩ := hnum
  have h0 := hch.1 r (ix r) hr (Nat.le_refl _)
  have h7 := hb1.2.1 x
  rw [(hv r (ix r) x hr (Nat.le_refl _) (by omega)).1]
  apply zr_bx
  unfold zq_yor zd_dm
  rw [zf_ex_iff, decide_eq_true_eq]
  constructor
  · rintro ⟨z, _, hz, hq⟩
    rw [Bool.and_eq_true] at hq
    obtain ⟨q, h1, h2, h3⟩ := (zf_ex_iff _ _ _).mp hq.2
    have hg4 := hb3.1 z
    have hgi := hb3.2.1 z
    unfold zq_lk at h3
    rw [Bool.and_eq_true, decide_eq_true_eq, ← Nat.add_assoc] at h3
    rcases zn_ut.mp h3.1 with h4 | h4
    · have := (hK r (ix r) z hr (Nat.le_refl _) hq.1).2 q h1 (by omega) h4
      omega
    · obtain ⟨e1, e2⟩ : gp z = x ∧ q = c := by omega
      have hd2 := hD.2.1 (ch (r * 16 + ix r) + 1) z h0.1 hq.1
      rw [e1] at hd2 h3
      rw [e2] at h1 h3
      refine ⟨hd2.1, ?_, ?_⟩
      · refine Nat.le_of_not_lt (fun h => ?_)
        have := hd2.2.2.2 c h1 h
        omega
      · have := hd2.2.2.1
        omega
  · rintro ⟨h1, h2, h3⟩
    obtain ⟨z, hz, hg, hcz⟩ := hD.2.2.1 (ch (r * 16 + ix r) + 1) x h0.1 h1
    have hl := zr_lz hb3.2.2.1 hcz
    have hzN := zg_lt hG _ _ (Nat.le_refl _) h0.1 z hz
    rw [hl.1] at h2
    rw [hl.2] at h3
    refine ⟨z, by omega, by omega, ?_⟩
    rw [hz, Bool.true_and]
    unfold zq_lost
    rw [zf_ex_iff]
    refine ⟨c, h2, by omega, ?_⟩
    unfold zq_lk
    rw [hg, ← Nat.add_assoc, zn_us, Bool.true_and]
    exact decide_eq_true h3
theorem zr_nol {x r c j : Nat} {kn' : Nat → Bool} (hN : N ≤ 124) (hn : n ≤ 4) (G : zg_G N gq gf P) (hch : zr_ch n N ix ic ch en gp gi gx P) (hr : r < n) (hc : c < 8) (hj : j ≤ ix r) (hk : kn' (r * 32 + x * 8 + c) = true) (h : zq_yor P gp gi gx en kn' (ch (r * 16 + j) + 1) r = false) : ∀ i z, i ≤ j → P (ch (r * 16 + i) + 1) z = true → gp z = x → gi z ≤ c → gx z ≤ en (x * 8 + c) := by
  intro i z hi hz hg hgi
  have hz2 := hch.2.2.1 r i j z hr hi hj hz
  have h0 := hch.1 r j hr hj
  have hzN := zg_lt G _ _ (Nat.le_refl _) h0.1 z hz2
  have h1 := (zf_ex_f _ _ _).mp h z (by omega) (by omega)
  rw [hz2, Bool.true_and] at h1
  have h2 := (zf_ex_f _ _ _).mp h1 c hgi (by omega)
  unfold zq_lk at h2
  rw [hg, ← Nat.add_assoc, hk, Bool.true_and, decide_eq_false_iff_not] at h2
  omega
theorem zt_announce {v1 v2 v3 : Int32} (F : zr_F n sc lm sv rl bg ix ic st en xo xp xt xk xl xm gp gi gx go ch to gq gf sf xup yup kn fl xs gs gm gv gr ga xv xrs xrr xra xss P D) : wpX_announce (fun r u' => wpY_announce (fun r' v' => r' = r ∧ i_Rel (k + 4) u' v') (nI n, nI sc, nI lm, nI sv, nI bg, nI rl, zc_N gp, zc_N gi, zc_N gx, gv, zc_E gq, zc_E gf, gr, ga, zc_N go, zc_B gs, zc_B gm, zc_B yp, zc_B yup, zc_N ix, zc_N ic, zc_N st, un, rp, dc, zc_N ch, zc_N en, zc_B kn, zc_B fl, zc_N to, zc_E sf, sr, sa, op, ol, ov) v1 v2 v3) (nI n, nI sc, nI lm, nI sv, nI rl, nI bg, zc_B xup, zc_N ix, zc_N ic, zc_N st, un, rp, dc, xv, zc_B xs, zc_N xo, xrs, xrr, xra, zc_O xp, zc_O xt, xss, sr, sa, zc_N en, zc_N xk, zc_N xl, zc_E xm, op, ol, ov) v1 v2 v3 := by
  have R : ∀ b, i_Rel (k + 4) (nI n, nI sc, nI lm, nI sv, nI rl, nI bg, zc_B xup, zc_N ix, zc_N ic, zc_N st, un, rp, dc, xv, zc_B xs, zc_N xo, xrs, xrr, xra, zc_O xp, zc_O xt, xss, sr, sa, zc_N en, zc_N xk, zc_N xl, zc_E xm, op, ol, ov) (nI n, nI sc, nI lm, nI sv, nI bg, nI rl, zc_N gp, zc_N gi, zc_N gx, gv, zc_E gq, zc_E gf, gr, ga, zc_N go, zc_B gs, zc_B gm, zc_B (b), zc_B yup, zc_N ix, zc_N ic, zc_N st, un, rp, dc, zc_N ch, zc_N en, zc_B kn, zc_B fl, zc_N to, zc_E sf, sr, sa, op, ol, ov) := fun b => zr_mk F
  have F0 := F
  obtain ⟨hnum, hb1, hb2, hb3, hup, hk1, hk2, hG, hiv, hD, hcur, hch, hK, hv, hd, hsl, hm, hsm, hfr, hsv⟩ := F
  obtain ⟨hn, hsc, hlm, hsvn, hrl, hbg⟩ := hnum
  have hix12 : ∀ j, ix j ≤ 12 := fun j => Nat.le_trans (hb1.1 j) hlm.2
  rcases pk_ix v1 (n := n) (by omega) with h | h | ⟨x, hx, rfl⟩
  · unfold wpX_announce wpY_announce wpX_isProcess wpY_isProcess
    exact br_t h (br_t rfl (br_t h (br_t rfl ⟨rfl, R _⟩)))
  · have h0 : ¬ v1 < 0 := by rw [zr_nn h (by omega)]; exact id
    unfold wpX_announce wpY_announce wpX_isProcess wpY_isProcess
    exact br_f h0 (br_t h (br_t rfl (br_f h0 (br_t h (br_t rfl ⟨rfl, R _⟩)))))
  · have hx0 : ¬ nI x < 0 := nI_pos (by omega)
    have hx1 : ¬ nI n ≤ nI x := nI_ge hx (by omega)
    rcases pk_ix v3 (n := n) (by omega) with h | h | ⟨r, hr, rfl⟩
    · unfold wpX_announce wpY_announce wpX_isProcess wpY_isProcess
      exact br_f hx0 (br_f hx1 (br_f (by decide) (br_t h (br_t rfl (br_f hx0 (br_f hx1 (br_f (by decide) (br_t h (br_t rfl ⟨rfl, R _⟩)))))))))
    · have h0 : ¬ v3 < 0 := by rw [zr_nn h (by omega)]; exact id
      unfold wpX_announce wpY_announce wpX_isProcess wpY_isProcess
      exact br_f hx0 (br_f hx1 (br_f (by decide) (br_f h0 (br_t h (br_t rfl (br_f hx0 (br_f hx1 (br_f (by decide) (br_f h0 (br_t h (br_t rfl ⟨rfl, R _⟩)))))))))))
    · have hr0 : ¬ nI r < 0 := nI_pos (by omega)
      have hr1 : ¬ nI n ≤ nI r := nI_ge hr (by omega)
      rcases pk_ix v2 (n := 8) (by omega) with h | h | ⟨c, hc, rfl⟩
      · unfold wpX_announce wpY_announce wpX_isProcess wpY_isProcess
        exact br_f hx0 (br_f hx1 (br_f (by decide) (br_f hr0 (br_f hr1 (br_f (by decide) (br_t h (br_f hx0 (br_f hx1 (br_f (by decide) (br_f hr0 (br_f hr1 (br_f (by decide) (br_t h ⟨rfl, R _⟩)))))))))))))
      · have h0 : ¬ v2 < 0 := by rw [zr_nn (n := 8) h (by omega)]; exact id
        have h7 : ¬ v2 ≤ 7 := by
          have h7 := zr_le (n := 8) (a := 7) h (by omega) (by omega)
          rw [show nI 7 = 7 from rfl] at h7
          rw [h7]; exact id
        unfold wpX_announce wpY_announce wpX_isProcess wpY_isProcess
        exact br_f hx0 (br_f hx1 (br_f (by decide) (br_f hr0 (br_f hr1 (br_f (by decide) (br_f h0 (br_f h7 (br_f hx0 (br_f hx1 (br_f (by decide) (br_f hr0 (br_f hr1 (br_f (by decide) (br_f h0 (br_f h7 ⟨rfl, R _⟩)))))))))))))))
      · have hic := hb1.2.1 x
        by_cases hkc : c < ic x
        · have hu := (hup r hr).1
          have hbit := zn_bit (hb2.2.2.2.1 (r * 4 + x)) hc
          have htb := (hk1 r x hr hx).2.1 c hc
          cases hy : yup r with
          | false =>
            rw [hy] at hu
            unfold wpX_announce wpY_announce wpX_isProcess wpY_isProcess
            simp (disch := omega) only [zn_k4, zn_k8, zn_k16, zn_k32, zn_m16, zn_a64, zn_a128, nI_add, nI_1, nI_clamp, vp_in_nI, true_and, and_true, forall_eq, zn_rN, zn_rB, zn_rO, zn_rE, zn_vb0, zn_vb1, zn_b1, zn_b0, zn_d1, zn_d0, zn_e1, zn_e0, zn_wN, zn_wB1, zn_wB0, zn_wO, zn_wOd, zn_wO0, zn_wE, zn_wEe, zn_wE0, zn_leT, zn_leF, zn_ltT, zn_ltF, zn_eqF, zn_eqT, zn_lt0, zn_0le, zn_d2a, zn_d2b, zn_e1a, zn_e1b, zn_10, zn_00, zn_sh4, zn_an15, true_imp_iff, false_imp_iff, imp_true_iff, not_true_eq_false, not_false_eq_true, zn_gT4, zn_gF4, zn_gT8, zn_gF8, zn_gT12, zn_gF12, zn_gT48, zn_gF48, zn_gT124, zn_gF124, zn_gT128, zn_gF128, zn_gT560, zn_gF560, zn_lT7, zn_lF7, zn_lT120, zn_lF120, zn_qT7, zn_qF7, zn_qT120, zn_qF120, zn_qT0, zn_qF0, zn_qT1, zn_qF1, zn_hT0, zn_hF0, zn_hT7, zn_hF7, zn_sb, pk_us, zn_us, hu, hy]
            first | exact ⟨rfl, R _⟩ | exact R _
          | true =>
            rw [hy] at hu
            cases hkn : kn (r * 32 + x * 8 + c) with
            | true =>
              rw [hkn] at htb
              have hb0 : ¬ nI (xk (r * 4 + x)) &&& ((1 : Int32) <<< (nI c &&& 31)) = 0 := fun z => by rw [hbit.mp z] at htb; exact absurd htb (by decide)
              unfold wpX_announce wpY_announce wpX_isProcess wpY_isProcess
              simp (disch := omega) only [zn_k4, zn_k8, zn_k16, zn_k32, zn_m16, zn_a64, zn_a128, nI_add, nI_1, nI_clamp, vp_in_nI, true_and, and_true, forall_eq, zn_rN, zn_rB, zn_rO, zn_rE, zn_vb0, zn_vb1, zn_b1, zn_b0, zn_d1, zn_d0, zn_e1, zn_e0, zn_wN, zn_wB1, zn_wB0, zn_wO, zn_wOd, zn_wO0, zn_wE, zn_wEe, zn_wE0, zn_leT, zn_leF, zn_ltT, zn_ltF, zn_eqF, zn_eqT, zn_lt0, zn_0le, zn_d2a, zn_d2b, zn_e1a, zn_e1b, zn_10, zn_00, zn_sh4, zn_an15, true_imp_iff, false_imp_iff, imp_true_iff, not_true_eq_false, not_false_eq_true, zn_gT4, zn_gF4, zn_gT8, zn_gF8, zn_gT12, zn_gF12, zn_gT48, zn_gF48, zn_gT124, zn_gF124, zn_gT128, zn_gF128, zn_gT560, zn_gF560, zn_lT7, zn_lF7, zn_lT120, zn_lF120, zn_qT7, zn_qF7, zn_qT120, zn_qF120, zn_qT0, zn_qF0, zn_qT1, zn_qF1, zn_hT0, zn_hF0, zn_hT7, zn_hF7, zn_sb, pk_us, zn_us, hu, hy, eq_false hb0, hkn]
              first | exact ⟨rfl, R _⟩ | exact R _
            | false =>
              rw [hkn] at htb
              have hicr := hb1.2.1 r
              have hixr := hix12 r
              have hlast := hch.1 r (ix r) hr (Nat.le_refl _)
              have hch4 := hb3.2.2.2.2.1 (r * 16 + ix r)
              have hdoom := zr_doom F0 hx hr hkc
              refine zx_annH hn.2 hx hr hc hkc hb1.2.1 hix12 hb1.2.2.2 hb2.2.1 hb2.2.2.2.1 hu htb ?_
              -- the reference up to its first question
              have hY : ∀ Q : Int32 → SY → Prop, (∀ b : Nat → Bool, (zd_dm (xp ((r * 16 + ix r) * 4 + x)) c (en (x * 8 + c)) = false → Q 0 (nI n, nI sc, nI lm, nI sv, nI bg, nI rl, zc_N gp, zc_N gi, zc_N gx, gv, zc_E gq, zc_E gf, gr, ga, zc_N go, zc_B gs, zc_B gm, zc_B (b), zc_B yup, zc_N ix, zc_N ic, zc_N st, un, rp, dc, zc_N ch, zc_N en, zc_B (zc_u kn (r * 32 + x * 8 + c) true), zc_B fl, zc_N to, zc_E sf, sr, sa, op, ol, ov)) ∧ (zd_dm (xp ((r * 16 + ix r) * 4 + x)) c (en (x * 8 + c)) = true → (ic r = 7 → Q (-8) (nI n, nI sc, nI lm, nI sv, nI bg, nI rl, zc_N gp, zc_N gi, zc_N gx, gv, zc_E gq, zc_E gf, gr, ga, zc_N go, zc_B gs, zc_B gm, zc_B (b), zc_B yup, zc_N ix, zc_N ic, zc_N st, un, rp, dc, zc_N ch, zc_N en, zc_B kn, zc_B fl, zc_N to, zc_E sf, sr, sa, op, ol, ov)) ∧ (ic r < 7 → ∃ f, wY_announce_145 Q (nI r) (nI (ix r)) f (nI 0) (nI 0) (nI n) (nI sc) (nI lm) (nI sv) (nI bg) (nI rl) (zc_N gp) (zc_N gi) (zc_N gx) gv (zc_E gq) (zc_E gf) gr ga (zc_N go) (zc_B gs) (zc_B gm) (zc_B (b)) (zc_B yup) (zc_N ix) (zc_N ic) (zc_N st) un rp dc (zc_N ch) (zc_N en) (zc_B (zc_u kn (r * 32 + x * 8 + c) true)) (zc_B fl) (zc_N to) (zc_E sf) sr sa op ol ov))) → wpY_announce Q (nI n, nI sc, nI lm, nI sv, nI bg, nI rl, zc_N gp, zc_N gi, zc_N gx, gv, zc_E gq, zc_E gf, gr, ga, zc_N go, zc_B gs, zc_B gm, zc_B yp, zc_B yup, zc_N ix, zc_N ic, zc_N st, un, rp, dc, zc_N ch, zc_N en, zc_B kn, zc_B fl, zc_N to, zc_E sf, sr, sa, op, ol, ov) (nI x) (nI c) (nI r) := by
                intro Q hQ
                unfold wpY_announce wpY_isProcess
                simp (disch := omega) only [zn_k4, zn_k8, zn_k16, zn_k32, zn_m16, zn_a64, zn_a128, nI_add, nI_1, nI_clamp, vp_in_nI, true_and, and_true, forall_eq, zn_rN, zn_rB, zn_rO, zn_rE, zn_vb0, zn_vb1, zn_b1, zn_b0, zn_d1, zn_d0, zn_e1, zn_e0, zn_wN, zn_wB1, zn_wB0, zn_wO, zn_wOd, zn_wO0, zn_wE, zn_wEe, zn_wE0, zn_leT, zn_leF, zn_ltT, zn_ltF, zn_eqF, zn_eqT, zn_lt0, zn_0le, zn_d2a, zn_d2b, zn_e1a, zn_e1b, zn_10, zn_00, zn_sh4, zn_an15, true_imp_iff, false_imp_iff, imp_true_iff, not_true_eq_false, not_false_eq_true, zn_gT4, zn_gF4, zn_gT8, zn_gF8, zn_gT12, zn_gF12, zn_gT48, zn_gF48, zn_gT124, zn_gF124, zn_gT128, zn_gF128, zn_gT560, zn_gF560, zn_lT7, zn_lF7, zn_lT120, zn_lF120, zn_qT7, zn_qF7, zn_qT120, zn_qF120, zn_qT0, zn_qF0, zn_qT1, zn_qF1, zn_hT0, zn_hF0, zn_hT7, zn_hF7, zn_sb, pk_us, zn_us, hy, hkn]
                refine zy_orph (m := ch (r * 16 + ix r) + 1) hG (by omega) hlast.1 (by omega) hb3.1 hb3.2.1 hb3.2.2.1 hb1.2.2.2 (fun b => ?_)
                rw [hdoom]
                have hQb := hQ b
                cases hdm : zd_dm (xp ((r * 16 + ix r) * 4 + x)) c (en (x * 8 + c)) with
                | false =>
                  have h1 := hQb.1 hdm
                  simp (disch := omega) only [zn_k4, zn_k8, zn_k16, zn_k32, zn_m16, zn_a64, zn_a128, nI_add, nI_1, nI_clamp, vp_in_nI, true_and, and_true, forall_eq, zn_rN, zn_rB, zn_rO, zn_rE, zn_vb0, zn_vb1, zn_b1, zn_b0, zn_d1, zn_d0, zn_e1, zn_e0, zn_wN, zn_wB1, zn_wB0, zn_wO, zn_wOd, zn_wO0, zn_wE, zn_wEe, zn_wE0, zn_leT, zn_leF, zn_ltT, zn_ltF, zn_eqF, zn_eqT, zn_lt0, zn_0le, zn_d2a, zn_d2b, zn_e1a, zn_e1b, zn_10, zn_00, zn_sh4, zn_an15, true_imp_iff, false_imp_iff, imp_true_iff, not_true_eq_false, not_false_eq_true, zn_gT4, zn_gF4, zn_gT8, zn_gF8, zn_gT12, zn_gF12, zn_gT48, zn_gF48, zn_gT124, zn_gF124, zn_gT128, zn_gF128, zn_gT560, zn_gF560, zn_lT7, zn_lF7, zn_lT120, zn_lF120, zn_qT7, zn_qF7, zn_qT120, zn_qF120, zn_qT0, zn_qF0, zn_qT1, zn_qF1, zn_hT0, zn_hF0, zn_hT7, zn_hF7, zn_sb, pk_us, zn_us]
                  exact h1
                | true =>
                  have h1 := hQb.2 hdm
                  by_cases h7 : ic r = 7
                  · have h2 := h1.1 h7
                    simp (disch := omega) only [zn_k4, zn_k8, zn_k16, zn_k32, zn_m16, zn_a64, zn_a128, nI_add, nI_1, nI_clamp, vp_in_nI, true_and, and_true, forall_eq, zn_rN, zn_rB, zn_rO, zn_rE, zn_vb0, zn_vb1, zn_b1, zn_b0, zn_d1, zn_d0, zn_e1, zn_e0, zn_wN, zn_wB1, zn_wB0, zn_wO, zn_wOd, zn_wO0, zn_wE, zn_wEe, zn_wE0, zn_leT, zn_leF, zn_ltT, zn_ltF, zn_eqF, zn_eqT, zn_lt0, zn_0le, zn_d2a, zn_d2b, zn_e1a, zn_e1b, zn_10, zn_00, zn_sh4, zn_an15, true_imp_iff, false_imp_iff, imp_true_iff, not_true_eq_false, not_false_eq_true, zn_gT4, zn_gF4, zn_gT8, zn_gF8, zn_gT12, zn_gF12, zn_gT48, zn_gF48, zn_gT124, zn_gF124, zn_gT128, zn_gF128, zn_gT560, zn_gF560, zn_lT7, zn_lF7, zn_lT120, zn_lF120, zn_qT7, zn_qF7, zn_qT120, zn_qF120, zn_qT0, zn_qF0, zn_qT1, zn_qF1, zn_hT0, zn_hF0, zn_hT7, zn_hF7, zn_sb, pk_us, zn_us, zn_uuf hkn]
                    exact h2
                  · have h2 := h1.2 (by omega)
                    simp (disch := omega) only [zn_k4, zn_k8, zn_k16, zn_k32, zn_m16, zn_a64, zn_a128, nI_add, nI_1, nI_clamp, vp_in_nI, true_and, and_true, forall_eq, zn_rN, zn_rB, zn_rO, zn_rE, zn_vb0, zn_vb1, zn_b1, zn_b0, zn_d1, zn_d0, zn_e1, zn_e0, zn_wN, zn_wB1, zn_wB0, zn_wO, zn_wOd, zn_wO0, zn_wE, zn_wEe, zn_wE0, zn_leT, zn_leF, zn_ltT, zn_ltF, zn_eqF, zn_eqT, zn_lt0, zn_0le, zn_d2a, zn_d2b, zn_e1a, zn_e1b, zn_10, zn_00, zn_sh4, zn_an15, true_imp_iff, false_imp_iff, imp_true_iff, not_true_eq_false, not_false_eq_true, zn_gT4, zn_gF4, zn_gT8, zn_gF8, zn_gT12, zn_gF12, zn_gT48, zn_gF48, zn_gT124, zn_gF124, zn_gT128, zn_gF128, zn_gT560, zn_gF560, zn_lT7, zn_lF7, zn_lT120, zn_lF120, zn_qT7, zn_qF7, zn_qT120, zn_qF120, zn_qT0, zn_qF0, zn_qT1, zn_qF1, zn_hT0, zn_hF0, zn_hT7, zn_hF7, zn_sb, pk_us, zn_us]
                    exact h2
              cases hdm : zd_dm (xp ((r * 16 + ix r) * 4 + x)) c (en (x * 8 + c)) with
              | false =>
                have hnol := zr_nol (kn' := zc_u kn (r * 32 + x * 8 + c) true) (by omega) hn.2 hG hch hr hc (Nat.le_refl _) zn_us (by rw [hdoom]; exact hdm)
                have F1 := zr_learnF F0 hr hx hkc hnol
                unfold wX_announce_136
                refine br_t rfl ?_
                unfold wX_announce_157
                refine zx_learn (by omega) (by omega) hc (hb1.2.2.2 _) hb2.2.2.2.2.1 ?_
                refine br_t rfl ?_
                exact hY _ (fun b => ⟨fun _ => ⟨rfl, zr_mk F1⟩, fun h1 => by rw [hdm] at h1; exact absurd h1 (by decide)⟩)
              | true =>
                by_cases h7 : ic r < 7
                · have hk1' := zr_k1L hk1 hr hx hn.2 hc hkc
                  have hKe : zf_last (fun j => !zq_orph xp (zl_ln xl ((r * 4 + x) * 8) (c + 1) (en (x * 8 + c))) n r (r * 16 + j)) (ix r) = zf_last (fun j => !zq_yor P gp gi gx en (zc_u kn (r * 32 + x * 8 + c) true) (ch (r * 16 + j) + 1) r) (ix r) := zf_last_cg _ (fun j hj => by
                    rw [zr_orph hn.2 (by omega) hb3 hk1' hG hiv hD (hch.1 r j hr hj).1 hr (fun y hy4 => (hv r j y hr hj hy4).1)])
                  have hKl := zf_last_le (fun j => !zq_yor P gp gi gx en (zc_u kn (r * 32 + x * 8 + c) true) (ch (r * 16 + j) + 1) r) (ix r)
                  have hKq := zf_last_q (fun j => !zq_yor P gp gi gx en (zc_u kn (r * 32 + x * 8 + c) true) (ch (r * 16 + j) + 1) r) (ix r)
                  generalize hKd : zf_last (fun j => !zq_yor P gp gi gx en (zc_u kn (r * 32 + x * 8 + c) true) (ch (r * 16 + j) + 1) r) (ix r) = K at hKe hKl hKq
                  have hnol : ∀ i z, i ≤ K → P (ch (r * 16 + i) + 1) z = true → gp z = x → gi z ≤ c → gx z ≤ en (x * 8 + c) := by
                    by_cases hK0 : K = 0
                    · intro i z hi hz _ _
                      obtain rfl : i = 0 := by omega
                      rw [hch.2.2.2 r hr] at hz
                      have hiv2 := hiv.2 r hr
                      rcases (hG.2.2 r (by omega) z).mp hz with h1 | h1 | h1
                      · rw [h1, hiv2.1]; omega
                      · rw [hiv2.2.1, hG.1 z] at h1; exact absurd h1 (by decide)
                      · rw [hiv2.2.2, hG.1 z] at h1; exact absurd h1 (by decide)
                    · have hq := hKq hK0
                      rw [Bool.not_eq_true'] at hq
                      exact zr_nol (kn' := zc_u kn (r * 32 + x * 8 + c) true) (by omega) hn.2 hG hch hr hc hKl zn_us hq
                  have FA := zr_cutF F0 hr hKl h7
                  have FC := zr_learnF FA hr hx hkc (by rw [zn_us]; exact hnol)
                  have FB := zr_recF FC hr zn_us
                  rw [zn_us (f := ix) (k := r), zn_uud hu, zn_uud hy] at FB
                  have RC : zr_RC r K (ix r) (n + bg) ch gp gf xp gr ga xrs xrr xra D := by
                    intro i hi hio
                    have h1 := hch.1 r i hr hio
                    have h2 := hd r i hr hio
                    rw [if_neg (by omega)] at h2
                    exact ⟨h1.1, fun y hy4 => (hv r i y hr hio hy4).2 (by omega), h2.2.2.2.2.2, h2.2.2.2.1, h2.2.2.2.2.1⟩
                  obtain ⟨dc', xt', xss', sr', sa', xp', fl', to', sf', F1, hX, hYr⟩ := zr_ret (K := K) (o := ix r) (un := upd un r (un r + nI (ix r - K))) (rp := upd rp r (rp r + nI (K - zf_last (fun j => xs (r * 16 + j)) K))) (op := op) (ol := ol) (ov := ov) hr hixr (ix r - K) (K + 1) dc xt xss sr sa xp fl to sf FB RC (by omega) (by omega)
                  have heb : zf_last (fun j => gs (ch (r * 16 + j))) K = zf_last (fun j => xs (r * 16 + j)) K := zf_last_cg _ (fun j hj => (hd r j hr (by omega)).2.1.symm)
                  unfold wX_announce_136
                  refine br_f (by decide) ?_
                  simp (disch := omega) only [zn_k4, zn_k8, zn_k16, zn_k32, zn_m16, zn_a64, zn_a128, nI_add, nI_1, nI_clamp, vp_in_nI, true_and, and_true, forall_eq, zn_rN, zn_rB, zn_rO, zn_rE, zn_vb0, zn_vb1, zn_b1, zn_b0, zn_d1, zn_d0, zn_e1, zn_e0, zn_wN, zn_wB1, zn_wB0, zn_wO, zn_wOd, zn_wO0, zn_wE, zn_wEe, zn_wE0, zn_leT, zn_leF, zn_ltT, zn_ltF, zn_eqF, zn_eqT, zn_lt0, zn_0le, zn_d2a, zn_d2b, zn_e1a, zn_e1b, zn_10, zn_00, zn_sh4, zn_an15, true_imp_iff, false_imp_iff, imp_true_iff, not_true_eq_false, not_false_eq_true, zn_gT4, zn_gF4, zn_gT8, zn_gF8, zn_gT12, zn_gF12, zn_gT48, zn_gF48, zn_gT124, zn_gF124, zn_gT128, zn_gF128, zn_gT560, zn_gF560, zn_lT7, zn_lF7, zn_lT120, zn_lF120, zn_qT7, zn_qF7, zn_qT120, zn_qF120, zn_qT0, zn_qF0, zn_qT1, zn_qF1, zn_hT0, zn_hF0, zn_hT7, zn_hF7, zn_sb, pk_us, zn_us]
                  unfold wX_announce_157
                  refine zx_learn (by omega) (by omega) hc (hb1.2.2.2 _) hb2.2.2.2.2.1 ?_
                  refine br_f (by decide) ?_
                  refine zx_roll hn.2 (by omega) h7 hix12 hb1.2.2.1 hb2.2.1 (zl_lnb hb2.2.2.2.2.1 _ _ _) hKe hX ?_
                  refine hY _ (fun b => ⟨fun h1 => by rw [hdm] at h1; exact absurd h1 (by decide), fun _ => ⟨fun h1 => absurd h1 (by omega), fun _ => ⟨ix r + 1 + 1, zy_ann0 hG (by omega) (by omega) hb3 hb1.2.2.2 hixr (by have := hb1.2.2.1 r; omega) (fun j hj => (hch.1 r j hr hj).1) (fun yp => ?_)⟩⟩⟩)
                  rw [hKd]
                  refine zy_ann209 (f := ix r - K + 1) (by omega) h7 (zn_ub hix12 (by omega)) zn_us hKl hixr hb3.2.2.2.2.1 ?_
                  rw [heb]
                  exact hYr _ (fun b => ⟨rfl, zr_mk F1⟩) yp
                · unfold wX_announce_136
                  refine br_f (by decide) ?_
                  simp (disch := omega) only [zn_k4, zn_k8, zn_k16, zn_k32, zn_m16, zn_a64, zn_a128, nI_add, nI_1, nI_clamp, vp_in_nI, true_and, and_true, forall_eq, zn_rN, zn_rB, zn_rO, zn_rE, zn_vb0, zn_vb1, zn_b1, zn_b0, zn_d1, zn_d0, zn_e1, zn_e0, zn_wN, zn_wB1, zn_wB0, zn_wO, zn_wOd, zn_wO0, zn_wE, zn_wEe, zn_wE0, zn_leT, zn_leF, zn_ltT, zn_ltF, zn_eqF, zn_eqT, zn_lt0, zn_0le, zn_d2a, zn_d2b, zn_e1a, zn_e1b, zn_10, zn_00, zn_sh4, zn_an15, true_imp_iff, false_imp_iff, imp_true_iff, not_true_eq_false, not_false_eq_true, zn_gT4, zn_gF4, zn_gT8, zn_gF8, zn_gT12, zn_gF12, zn_gT48, zn_gF48, zn_gT124, zn_gF124, zn_gT128, zn_gF128, zn_gT560, zn_gF560, zn_lT7, zn_lF7, zn_lT120, zn_lF120, zn_qT7, zn_qF7, zn_qT120, zn_qF120, zn_qT0, zn_qF0, zn_qT1, zn_qF1, zn_hT0, zn_hF0, zn_hT7, zn_hF7, zn_sb, pk_us, zn_us]
                  exact hY _ (fun b => ⟨fun h1 => by rw [hdm] at h1; exact absurd h1 (by decide), fun _ => ⟨fun _ => ⟨rfl, R b⟩, fun h1 => absurd h1 h7⟩⟩)
        · unfold wpX_announce wpY_announce wpX_isProcess wpY_isProcess
          simp (disch := omega) only [zn_k4, zn_k8, zn_k16, zn_k32, zn_m16, zn_a64, zn_a128, nI_add, nI_1, nI_clamp, vp_in_nI, true_and, and_true, forall_eq, zn_rN, zn_rB, zn_rO, zn_rE, zn_vb0, zn_vb1, zn_b1, zn_b0, zn_d1, zn_d0, zn_e1, zn_e0, zn_wN, zn_wB1, zn_wB0, zn_wO, zn_wOd, zn_wO0, zn_wE, zn_wEe, zn_wE0, zn_leT, zn_leF, zn_ltT, zn_ltF, zn_eqF, zn_eqT, zn_lt0, zn_0le, zn_d2a, zn_d2b, zn_e1a, zn_e1b, zn_10, zn_00, zn_sh4, zn_an15, true_imp_iff, false_imp_iff, imp_true_iff, not_true_eq_false, not_false_eq_true, zn_gT4, zn_gF4, zn_gT8, zn_gF8, zn_gT12, zn_gF12, zn_gT48, zn_gF48, zn_gT124, zn_gF124, zn_gT128, zn_gF128, zn_gT560, zn_gF560, zn_lT7, zn_lF7, zn_lT120, zn_lF120, zn_qT7, zn_qF7, zn_qT120, zn_qF120, zn_qT0, zn_qF0, zn_qT1, zn_qF1, zn_hT0, zn_hF0, zn_hT7, zn_hF7, zn_sb, pk_us, zn_us]
          first | exact ⟨rfl, R _⟩ | exact R _
end
end
section
/-! the constructors -/
def zi_f {α : Type} (f : Nat → α) (k : Nat) (v : Nat → α) : Nat → α := fun j => if j < k then v j else f j
def zi_g {α : Type} (f : Nat → α) (k : Nat) (v : Nat → α) : Nat → α := fun j => if j % 16 = 0 ∧ j / 16 < k then v (j / 16) else f j
def zi_h (f : Nat → Nat) (k : Nat) : Nat → Nat := fun j => if j % 65 = 0 ∧ j / 65 < k then 1 else f j
def zi_m (f : Nat → Bool) (k : Nat) : Nat → Bool := fun j => if j % 5 = 0 ∧ j / 5 < k then true else f j
theorem zi_f0 {α : Type} (f : Nat → α) (v : Nat → α) : zi_f f 0 v = f := by funext j; exact if_neg (Nat.not_lt_zero _)
theorem zi_g0 {α : Type} (f : Nat → α) (v : Nat → α) : zi_g f 0 v = f := by funext j; exact if_neg (fun h => Nat.not_lt_zero _ h.2)
theorem zi_h0 (f : Nat → Nat) : zi_h f 0 = f := by funext j; exact if_neg (fun h => Nat.not_lt_zero _ h.2)
theorem zi_m0 (f : Nat → Bool) : zi_m f 0 = f := by funext j; exact if_neg (fun h => Nat.not_lt_zero _ h.2)
theorem zi_fs {α : Type} (f : Nat → α) (k : Nat) (v : Nat → α) {e : α} (he : v k = e) : zc_u (zi_f f k v) k e = zi_f f (k + 1) v := by
  funext j
  unfold zc_u zi_f
  by_cases h : j = k
  · subst h; rw [if_pos rfl, if_pos (by omega), he]
  · rw [if_neg h]
    by_cases h2 : j < k
    · rw [if_pos h2, if_pos (by omega)]
    · rw [if_neg h2, if_neg (by omega)]
theorem zi_gs {α : Type} (f : Nat → α) (k : Nat) (v : Nat → α) {e : α} (he : v k = e) : zc_u (zi_g f k v) (k * 16) e = zi_g f (k + 1) v := by
  funext j
  unfold zc_u zi_g
  by_cases h : j = k * 16
  · subst h; rw [if_pos rfl, if_pos (by omega), show k * 16 / 16 = k by omega, he]
  · rw [if_neg h]
    by_cases h2 : j % 16 = 0 ∧ j / 16 < k
    · rw [if_pos h2, if_pos (by omega)]
    · rw [if_neg h2, if_neg (by omega)]
theorem zi_hs (f : Nat → Nat) (k : Nat) : zc_u (zi_h f k) (k * 16 * 4 + k) 1 = zi_h f (k + 1) := by
  funext j
  unfold zc_u zi_h
  by_cases h : j = k * 16 * 4 + k
  · rw [if_pos h, if_pos (by omega)]
  · rw [if_neg h]
    by_cases h2 : j % 65 = 0 ∧ j / 65 < k
    · rw [if_pos h2, if_pos (by omega)]
    · rw [if_neg h2, if_neg (by omega)]
theorem zi_ms (f : Nat → Bool) (k : Nat) : zc_u (zi_m f k) (k * 4 + k) true = zi_m f (k + 1) := by
  funext j
  unfold zc_u zi_m
  by_cases h : j = k * 4 + k
  · rw [if_pos h, if_pos (by omega)]
  · rw [if_neg h]
    by_cases h2 : j % 5 = 0 ∧ j / 5 < k
    · rw [if_pos h2, if_pos (by omega)]
    · rw [if_neg h2, if_neg (by omega)]
theorem zn_wO00 (f : Nat → Nat) (k : Nat) : upd (zc_O f) k 0 = zc_O (zc_u f k 1) := zn_wO f k 0
theorem zn_upd (f : Nat → Int32) (k : Nat) (v : Int32) : upd f k v = zc_u f k v := rfl
theorem zx_clampU {post : Int32 → Prop} {qf0 qf1 qf2 qf3 qf4 qf5 : Int32} {qa0 qa1 qa2 qa3 qa4 qa5 qa6 qa7 qa8 qa9 qa10 qa11 qa12 qa13 qa14 qa15 qa16 qa17 qa18 qa19 qa20 qa21 qa22 qa23 qa24 : Nat → Int32} {v : Int32} (lo hi : Nat) (h : lo ≤ hi) (hh : hi < 2 ^ 31) (hp : post (nI (zf_cl v lo hi))) : wpX_clamp post (qf0, qf1, qf2, qf3, qf4, qf5, qa0, qa1, qa2, qa3, qa4, qa5, qa6, qa7, qa8, qa9, qa10, qa11, qa12, qa13, qa14, qa15, qa16, qa17, qa18, qa19, qa20, qa21, qa22, qa23, qa24) v (nI lo) (nI hi) := zf_cl_wp h hh hp
theorem zy_clampU {post : Int32 → Prop} {qf0 qf1 qf2 qf3 qf4 qf5 : Int32} {qa0 qa1 qa2 qa3 qa4 qa5 qa6 qa7 qa8 qa9 qa10 qa11 qa12 qa13 qa14 qa15 qa16 qa17 qa18 qa19 qa20 qa21 qa22 qa23 qa24 qa25 qa26 qa27 qa28 qa29 : Nat → Int32} {v : Int32} (lo hi : Nat) (h : lo ≤ hi) (hh : hi < 2 ^ 31) (hp : post (nI (zf_cl v lo hi))) : wpY_clamp post (qf0, qf1, qf2, qf3, qf4, qf5, qa0, qa1, qa2, qa3, qa4, qa5, qa6, qa7, qa8, qa9, qa10, qa11, qa12, qa13, qa14, qa15, qa16, qa17, qa18, qa19, qa20, qa21, qa22, qa23, qa24, qa25, qa26, qa27, qa28, qa29) v (nI lo) (nI hi) := zf_cl_wp h hh hp
section
variable {n sc lm sv rl bg : Nat} {xup xs gs gm yp yup kn fl : Nat → Bool} {ix ic st xo xp xt en xk xl xm gp gi gx gq gf go ch to sf : Nat → Nat} {un rp dc xv xrs xrr xra xss sr sa op ol ov gv gr ga : Nat → Int32}
theorem zx_i335 {post : SX → Prop} (hp : post (nI n, nI sc, nI lm, nI sv, nI rl, nI bg, zc_B (zi_f xup 4 (fun _ => true)), zc_N ix, zc_N ic, zc_N st, un, rp, dc, (zi_g xv 4 (fun q => nI (q + 1))), zc_B (zi_g xs 4 (fun _ => true)), zc_N xo, (zi_g xrs 4 (fun _ => -2)), xrr, xra, zc_O (zi_h xp 4), zc_O xt, xss, sr, sa, zc_N en, zc_N xk, zc_N xl, zc_E xm, op, ol, ov)) : ∀ d x, x + d = 4 → wX_init_335 post (nI n) (nI sc) (nI lm) (nI sv) (nI rl) (nI bg) (d + 1) (nI x) (zc_B (zi_f xup x (fun _ => true))) (zc_N ix) (zc_N ic) (zc_N st) un rp dc (zi_g xv x (fun q => nI (q + 1))) (zc_B (zi_g xs x (fun _ => true))) (zc_N xo) (zi_g xrs x (fun _ => -2)) xrr xra (zc_O (zi_h xp x)) (zc_O xt) xss sr sa (zc_N en) (zc_N xk) (zc_N xl) (zc_E xm) op ol ov := by
  intro d
  induction d with
  | zero =>
    intro x h
    obtain rfl : x = 4 := by omega
    exact br_t (by decide) hp
  | succ d ih =>
    intro x h
    have hi := ih (x + 1) (by omega)
    rw [wX_init_335]
    simp (disch := omega) only [zn_k4, zn_k8, zn_k16, zn_k32, zn_m16, zn_a64, zn_a128, nI_add, nI_1, nI_clamp, vp_in_nI, true_and, and_true, forall_eq, zn_rN, zn_rB, zn_rO, zn_rE, zn_vb0, zn_vb1, zn_b1, zn_b0, zn_d1, zn_d0, zn_e1, zn_e0, zn_wN, zn_wB1, zn_wB0, zn_wO, zn_wOd, zn_wO0, zn_wE, zn_wEe, zn_wE0, zn_leT, zn_leF, zn_ltT, zn_ltF, zn_eqF, zn_eqT, zn_lt0, zn_0le, zn_d2a, zn_d2b, zn_e1a, zn_e1b, zn_10, zn_00, zn_sh4, zn_an15, true_imp_iff, false_imp_iff, imp_true_iff, not_true_eq_false, not_false_eq_true, zn_gT4, zn_gF4, zn_gT8, zn_gF8, zn_gT12, zn_gF12, zn_gT48, zn_gF48, zn_gT124, zn_gF124, zn_gT128, zn_gF128, zn_gT560, zn_gF560, zn_lT7, zn_lF7, zn_lT120, zn_lF120, zn_qT7, zn_qF7, zn_qT120, zn_qF120, zn_qT0, zn_qF0, zn_qT1, zn_qF1, zn_hT0, zn_hF0, zn_hT7, zn_hF7, zn_sb, pk_us, zn_us, zn_wO00, zi_hs]
    rw [zn_upd, zn_upd, zi_fs xup x (fun _ => true) rfl, zi_gs xv x (fun q => nI (q + 1)) rfl, zi_gs xs x (fun _ => true) rfl, zi_gs xrs x (fun _ => -2) rfl]
    exact hi
theorem zx_i301 {post : SX → Prop} (hp : ∃ f, wX_init_335 post (nI n) (nI sc) (nI lm) (nI sv) (nI rl) (nI bg) f 0 (zc_B xup) (zc_N ix) (zc_N ic) (zc_N st) un rp dc xv (zc_B xs) (zc_N xo) xrs xrr xra (zc_O xp) (zc_O xt) xss sr sa (zc_N en) (zc_N xk) (zc_N (zi_f xl 128 (fun _ => 16))) (zc_E (zi_f xm 128 (fun _ => 0))) op ol ov) : ∀ d x, x + d = 128 → wX_init_301 post (nI n) (nI sc) (nI lm) (nI sv) (nI rl) (nI bg) (d + 1) (nI x) (zc_B xup) (zc_N ix) (zc_N ic) (zc_N st) un rp dc xv (zc_B xs) (zc_N xo) xrs xrr xra (zc_O xp) (zc_O xt) xss sr sa (zc_N en) (zc_N xk) (zc_N (zi_f xl x (fun _ => 16))) (zc_E (zi_f xm x (fun _ => 0))) op ol ov := by
  intro d
  induction d with
  | zero =>
    intro x h
    obtain rfl : x = 128 := by omega
    exact br_t (by decide) hp
  | succ d ih =>
    intro x h
    have hi := ih (x + 1) (by omega)
    have e : upd (zc_N (zi_f xl x (fun _ => 16))) x 16 = zc_N (zi_f xl (x + 1) (fun _ => 16)) := by
      rw [show (16 : Int32) = nI 16 from rfl, zn_wN, zi_fs xl x (fun _ => 16) rfl]
    rw [wX_init_301]
    simp (disch := omega) only [zn_k4, zn_k8, zn_k16, zn_k32, zn_m16, zn_a64, zn_a128, nI_add, nI_1, nI_clamp, vp_in_nI, true_and, and_true, forall_eq, zn_rN, zn_rB, zn_rO, zn_rE, zn_vb0, zn_vb1, zn_b1, zn_b0, zn_d1, zn_d0, zn_e1, zn_e0, zn_wN, zn_wB1, zn_wB0, zn_wO, zn_wOd, zn_wO0, zn_wE, zn_wEe, zn_wE0, zn_leT, zn_leF, zn_ltT, zn_ltF, zn_eqF, zn_eqT, zn_lt0, zn_0le, zn_d2a, zn_d2b, zn_e1a, zn_e1b, zn_10, zn_00, zn_sh4, zn_an15, true_imp_iff, false_imp_iff, imp_true_iff, not_true_eq_false, not_false_eq_true, zn_gT4, zn_gF4, zn_gT8, zn_gF8, zn_gT12, zn_gF12, zn_gT48, zn_gF48, zn_gT124, zn_gF124, zn_gT128, zn_gF128, zn_gT560, zn_gF560, zn_lT7, zn_lF7, zn_lT120, zn_lF120, zn_qT7, zn_qF7, zn_qT120, zn_qF120, zn_qT0, zn_qF0, zn_qT1, zn_qF1, zn_hT0, zn_hF0, zn_hT7, zn_hF7, zn_sb, pk_us, zn_us, e, zi_fs xm x (fun _ => 0) rfl]
    exact hi
theorem zx_i276 {post : SX → Prop} (hp : ∃ f, wX_init_301 post (nI n) (nI sc) (nI lm) (nI sv) (nI rl) (nI bg) f 0 (zc_B xup) (zc_N ix) (zc_N ic) (zc_N st) un rp dc xv (zc_B xs) (zc_N xo) xrs xrr xra (zc_O xp) (zc_O (zi_f xt 12 (fun _ => 0))) xss sr sa (zc_N en) (zc_N xk) (zc_N xl) (zc_E xm) op ol ov) : ∀ d x, x + d = 12 → wX_init_276 post (nI n) (nI sc) (nI lm) (nI sv) (nI rl) (nI bg) (d + 1) (nI x) (zc_B xup) (zc_N ix) (zc_N ic) (zc_N st) un rp dc xv (zc_B xs) (zc_N xo) xrs xrr xra (zc_O xp) (zc_O (zi_f xt x (fun _ => 0))) xss sr sa (zc_N en) (zc_N xk) (zc_N xl) (zc_E xm) op ol ov := by
  intro d
  induction d with
  | zero =>
    intro x h
    obtain rfl : x = 12 := by omega
    exact br_t (by decide) hp
  | succ d ih =>
    intro x h
    have hi := ih (x + 1) (by omega)
    rw [wX_init_276]
    simp (disch := omega) only [zn_k4, zn_k8, zn_k16, zn_k32, zn_m16, zn_a64, zn_a128, nI_add, nI_1, nI_clamp, vp_in_nI, true_and, and_true, forall_eq, zn_rN, zn_rB, zn_rO, zn_rE, zn_vb0, zn_vb1, zn_b1, zn_b0, zn_d1, zn_d0, zn_e1, zn_e0, zn_wN, zn_wB1, zn_wB0, zn_wO, zn_wOd, zn_wO0, zn_wE, zn_wEe, zn_wE0, zn_leT, zn_leF, zn_ltT, zn_ltF, zn_eqF, zn_eqT, zn_lt0, zn_0le, zn_d2a, zn_d2b, zn_e1a, zn_e1b, zn_10, zn_00, zn_sh4, zn_an15, true_imp_iff, false_imp_iff, imp_true_iff, not_true_eq_false, not_false_eq_true, zn_gT4, zn_gF4, zn_gT8, zn_gF8, zn_gT12, zn_gF12, zn_gT48, zn_gF48, zn_gT124, zn_gF124, zn_gT128, zn_gF128, zn_gT560, zn_gF560, zn_lT7, zn_lF7, zn_lT120, zn_lF120, zn_qT7, zn_qF7, zn_qT120, zn_qF120, zn_qT0, zn_qF0, zn_qT1, zn_qF1, zn_hT0, zn_hF0, zn_hT7, zn_hF7, zn_sb, pk_us, zn_us, zi_fs xt x (fun _ => 0) rfl]
    exact hi
theorem zx_i250 {post : SX → Prop} (hp : ∃ f, wX_init_276 post (nI n) (nI sc) (nI lm) (nI sv) (nI rl) (nI bg) f 0 (zc_B xup) (zc_N ix) (zc_N ic) (zc_N st) un rp dc xv (zc_B xs) (zc_N xo) xrs xrr xra (zc_O (zi_f xp 560 (fun _ => 0))) (zc_O xt) xss sr sa (zc_N en) (zc_N xk) (zc_N xl) (zc_E xm) op ol ov) : ∀ d x, x + d = 560 → wX_init_250 post (nI n) (nI sc) (nI lm) (nI sv) (nI rl) (nI bg) (d + 1) (nI x) (zc_B xup) (zc_N ix) (zc_N ic) (zc_N st) un rp dc xv (zc_B xs) (zc_N xo) xrs xrr xra (zc_O (zi_f xp x (fun _ => 0))) (zc_O xt) xss sr sa (zc_N en) (zc_N xk) (zc_N xl) (zc_E xm) op ol ov := by
  intro d
  induction d with
  | zero =>
    intro x h
    obtain rfl : x = 560 := by omega
    exact br_t (by decide) hp
  | succ d ih =>
    intro x h
    have hi := ih (x + 1) (by omega)
    rw [wX_init_250]
    simp (disch := omega) only [zn_k4, zn_k8, zn_k16, zn_k32, zn_m16, zn_a64, zn_a128, nI_add, nI_1, nI_clamp, vp_in_nI, true_and, and_true, forall_eq, zn_rN, zn_rB, zn_rO, zn_rE, zn_vb0, zn_vb1, zn_b1, zn_b0, zn_d1, zn_d0, zn_e1, zn_e0, zn_wN, zn_wB1, zn_wB0, zn_wO, zn_wOd, zn_wO0, zn_wE, zn_wEe, zn_wE0, zn_leT, zn_leF, zn_ltT, zn_ltF, zn_eqF, zn_eqT, zn_lt0, zn_0le, zn_d2a, zn_d2b, zn_e1a, zn_e1b, zn_10, zn_00, zn_sh4, zn_an15, true_imp_iff, false_imp_iff, imp_true_iff, not_true_eq_false, not_false_eq_true, zn_gT4, zn_gF4, zn_gT8, zn_gF8, zn_gT12, zn_gF12, zn_gT48, zn_gF48, zn_gT124, zn_gF124, zn_gT128, zn_gF128, zn_gT560, zn_gF560, zn_lT7, zn_lF7, zn_lT120, zn_lF120, zn_qT7, zn_qF7, zn_qT120, zn_qF120, zn_qT0, zn_qF0, zn_qT1, zn_qF1, zn_hT0, zn_hF0, zn_hT7, zn_hF7, zn_sb, pk_us, zn_us, zi_fs xp x (fun _ => 0) rfl]
    exact hi
theorem zx_init0 {post : SX → Prop} (hp : post (nI n, nI sc, nI lm, nI sv, nI (0), nI (0), zc_B (zi_f (fun _ => false) 4 (fun _ => true)), zc_N (fun _ => 0), zc_N (fun _ => 0), zc_N (fun _ => 0), (fun _ => 0), (fun _ => 0), (fun _ => 0), (zi_g (fun _ => 0) 4 (fun q => nI (q + 1))), zc_B (zi_g (fun _ => false) 4 (fun _ => true)), zc_N (fun _ => 0), (zi_g (fun _ => 0) 4 (fun _ => -2)), (fun _ => 0), (fun _ => 0), zc_O (zi_h (zi_f (fun _ => 1) 560 (fun _ => 0)) 4), zc_O (zi_f (fun _ => 1) 12 (fun _ => 0)), (fun _ => 0), (fun _ => 0), (fun _ => 0), zc_N (fun _ => 0), zc_N (fun _ => 0), zc_N (zi_f (fun _ => 0) 128 (fun _ => 16)), zc_E (zi_f (fun _ => 1) 128 (fun _ => 0)), (fun _ => 0), (fun _ => 0), (fun _ => 0))) : ∃ f, wX_init_250 post (nI n) (nI sc) (nI lm) (nI sv) (nI (0)) (nI (0)) f 0 (zc_B (fun _ => false)) (zc_N (fun _ => 0)) (zc_N (fun _ => 0)) (zc_N (fun _ => 0)) (fun _ => 0) (fun _ => 0) (fun _ => 0) (fun _ => 0) (zc_B (fun _ => false)) (zc_N (fun _ => 0)) (fun _ => 0) (fun _ => 0) (fun _ => 0) (zc_O (fun _ => 1)) (zc_O (fun _ => 1)) (fun _ => 0) (fun _ => 0) (fun _ => 0) (zc_N (fun _ => 0)) (zc_N (fun _ => 0)) (zc_N (fun _ => 0)) (zc_E (fun _ => 1)) (fun _ => 0) (fun _ => 0) (fun _ => 0) := by
  refine ⟨561, ?_⟩
  have h := zx_i250 (post := post) (n := n) (sc := sc) (lm := lm) (sv := sv) (rl := 0) (bg := 0) (xup := fun _ => false) (ix := fun _ => 0) (ic := fun _ => 0) (st := fun _ => 0) (un := fun _ => 0) (rp := fun _ => 0) (dc := fun _ => 0) (xv := fun _ => 0) (xs := fun _ => false) (xo := fun _ => 0) (xrs := fun _ => 0) (xrr := fun _ => 0) (xra := fun _ => 0) (xp := fun _ => 1) (xt := fun _ => 1) (xss := fun _ => 0) (sr := fun _ => 0) (sa := fun _ => 0) (en := fun _ => 0) (xk := fun _ => 0) (xl := fun _ => 0) (xm := fun _ => 1) (op := fun _ => 0) (ol := fun _ => 0) (ov := fun _ => 0) ⟨13, ?_⟩ 560 0 (by omega)
  · rw [zi_f0] at h
    exact h
  · have h := zx_i276 (post := post) (n := n) (sc := sc) (lm := lm) (sv := sv) (rl := 0) (bg := 0) (xup := fun _ => false) (ix := fun _ => 0) (ic := fun _ => 0) (st := fun _ => 0) (un := fun _ => 0) (rp := fun _ => 0) (dc := fun _ => 0) (xv := fun _ => 0) (xs := fun _ => false) (xo := fun _ => 0) (xrs := fun _ => 0) (xrr := fun _ => 0) (xra := fun _ => 0) (xp := zi_f (fun _ => 1) 560 (fun _ => 0)) (xt := fun _ => 1) (xss := fun _ => 0) (sr := fun _ => 0) (sa := fun _ => 0) (en := fun _ => 0) (xk := fun _ => 0) (xl := fun _ => 0) (xm := fun _ => 1) (op := fun _ => 0) (ol := fun _ => 0) (ov := fun _ => 0) ⟨129, ?_⟩ 12 0 (by omega)
    · rw [zi_f0] at h
      exact h
    · have h := zx_i301 (post := post) (n := n) (sc := sc) (lm := lm) (sv := sv) (rl := 0) (bg := 0) (xup := fun _ => false) (ix := fun _ => 0) (ic := fun _ => 0) (st := fun _ => 0) (un := fun _ => 0) (rp := fun _ => 0) (dc := fun _ => 0) (xv := fun _ => 0) (xs := fun _ => false) (xo := fun _ => 0) (xrs := fun _ => 0) (xrr := fun _ => 0) (xra := fun _ => 0) (xp := zi_f (fun _ => 1) 560 (fun _ => 0)) (xt := zi_f (fun _ => 1) 12 (fun _ => 0)) (xss := fun _ => 0) (sr := fun _ => 0) (sa := fun _ => 0) (en := fun _ => 0) (xk := fun _ => 0) (xl := fun _ => 0) (xm := fun _ => 1) (op := fun _ => 0) (ol := fun _ => 0) (ov := fun _ => 0) ⟨5, ?_⟩ 128 0 (by omega)
      · rw [zi_f0, zi_f0] at h
        exact h
      · have h := zx_i335 (post := post) (n := n) (sc := sc) (lm := lm) (sv := sv) (rl := 0) (bg := 0) (xup := fun _ => false) (ix := fun _ => 0) (ic := fun _ => 0) (st := fun _ => 0) (un := fun _ => 0) (rp := fun _ => 0) (dc := fun _ => 0) (xv := fun _ => 0) (xs := fun _ => false) (xo := fun _ => 0) (xrs := fun _ => 0) (xrr := fun _ => 0) (xra := fun _ => 0) (xp := zi_f (fun _ => 1) 560 (fun _ => 0)) (xt := zi_f (fun _ => 1) 12 (fun _ => 0)) (xss := fun _ => 0) (sr := fun _ => 0) (sa := fun _ => 0) (en := fun _ => 0) (xk := fun _ => 0) (xl := zi_f (fun _ => 0) 128 (fun _ => 16)) (xm := zi_f (fun _ => 1) 128 (fun _ => 0)) (op := fun _ => 0) (ol := fun _ => 0) (ov := fun _ => 0) hp 4 0 (by omega)
        rw [zi_f0, zi_g0, zi_g0, zi_g0, zi_h0] at h
        exact h
theorem zy_i289 {post : SY → Prop} (hn : n ≤ 4) (hp : post (nI n, nI sc, nI lm, nI sv, nI bg, nI rl, zc_N (zi_f gp n (fun j => j)), zc_N gi, zc_N gx, (zi_f gv n (fun j => nI (j + 1))), zc_E (zi_f gq n (fun _ => 0)), zc_E (zi_f gf n (fun _ => 0)), gr, ga, zc_N go, zc_B (zi_f gs n (fun _ => true)), zc_B (zi_m gm n), zc_B yp, zc_B (zi_f yup n (fun _ => true)), zc_N ix, zc_N ic, zc_N st, un, rp, dc, zc_N (zi_g ch n (fun j => j)), zc_N en, zc_B kn, zc_B fl, zc_N to, zc_E sf, sr, sa, op, ol, ov)) : ∀ d x, x + d = n → wY_init_289 post (nI n) (nI sc) (nI lm) (nI sv) (nI bg) (nI rl) (d + 1) (nI x) (zc_N (zi_f gp x (fun j => j))) (zc_N gi) (zc_N gx) (zi_f gv x (fun j => nI (j + 1))) (zc_E (zi_f gq x (fun _ => 0))) (zc_E (zi_f gf x (fun _ => 0))) gr ga (zc_N go) (zc_B (zi_f gs x (fun _ => true))) (zc_B (zi_m gm x)) (zc_B yp) (zc_B (zi_f yup x (fun _ => true))) (zc_N ix) (zc_N ic) (zc_N st) un rp dc (zc_N (zi_g ch x (fun j => j))) (zc_N en) (zc_B kn) (zc_B fl) (zc_N to) (zc_E sf) sr sa op ol ov := by
  intro d
  induction d with
  | zero =>
    intro x h
    obtain rfl : x = n := by omega
    exact br_t (nI_le (Nat.le_refl _) (by omega)) hp
  | succ d ih =>
    intro x h
    have hi := ih (x + 1) (by omega)
    rw [wY_init_289]
    simp (disch := omega) only [zn_k4, zn_k8, zn_k16, zn_k32, zn_m16, zn_a64, zn_a128, nI_add, nI_1, nI_clamp, vp_in_nI, true_and, and_true, forall_eq, zn_rN, zn_rB, zn_rO, zn_rE, zn_vb0, zn_vb1, zn_b1, zn_b0, zn_d1, zn_d0, zn_e1, zn_e0, zn_wN, zn_wB1, zn_wB0, zn_wO, zn_wOd, zn_wO0, zn_wE, zn_wEe, zn_wE0, zn_leT, zn_leF, zn_ltT, zn_ltF, zn_eqF, zn_eqT, zn_lt0, zn_0le, zn_d2a, zn_d2b, zn_e1a, zn_e1b, zn_10, zn_00, zn_sh4, zn_an15, true_imp_iff, false_imp_iff, imp_true_iff, not_true_eq_false, not_false_eq_true, zn_gT4, zn_gF4, zn_gT8, zn_gF8, zn_gT12, zn_gF12, zn_gT48, zn_gF48, zn_gT124, zn_gF124, zn_gT128, zn_gF128, zn_gT560, zn_gF560, zn_lT7, zn_lF7, zn_lT120, zn_lF120, zn_qT7, zn_qF7, zn_qT120, zn_qF120, zn_qT0, zn_qF0, zn_qT1, zn_qF1, zn_hT0, zn_hF0, zn_hT7, zn_hF7, zn_sb, pk_us, zn_us, zi_ms]
    rw [zn_upd, zi_fs yup x (fun _ => true) rfl, zi_gs ch x (fun j => j) rfl, zi_fs gp x (fun j => j) rfl, zi_fs gv x (fun j => nI (j + 1)) rfl, zi_fs gq x (fun _ => 0) rfl, zi_fs gf x (fun _ => 0) rfl, zi_fs gs x (fun _ => true) rfl]
    exact hi
theorem zy_init0 {post : SY → Prop} (hn : n ≤ 4) (hp : post (nI (n), nI sc, nI lm, nI sv, nI (0), nI (0), zc_N (zi_f (fun _ => 0) n (fun j => j)), zc_N (fun _ => 0), zc_N (fun _ => 0), (zi_f (fun _ => 0) n (fun j => nI (j + 1))), zc_E (zi_f (fun _ => 1) n (fun _ => 0)), zc_E (zi_f (fun _ => 1) n (fun _ => 0)), (fun _ => 0), (fun _ => 0), zc_N (fun _ => 0), zc_B (zi_f (fun _ => false) n (fun _ => true)), zc_B (zi_m (fun _ => false) n), zc_B (fun _ => false), zc_B (zi_f (fun _ => false) n (fun _ => true)), zc_N (fun _ => 0), zc_N (fun _ => 0), zc_N (fun _ => 0), (fun _ => 0), (fun _ => 0), (fun _ => 0), zc_N (zi_g (fun _ => 0) n (fun j => j)), zc_N (fun _ => 0), zc_B (fun _ => false), zc_B (fun _ => false), zc_N (fun _ => 0), zc_E (fun _ => 1), (fun _ => 0), (fun _ => 0), (fun _ => 0), (fun _ => 0), (fun _ => 0))) : ∃ f, wY_init_289 post (nI n) (nI sc) (nI lm) (nI sv) (nI (0)) (nI (0)) f 0 (zc_N (fun _ => 0)) (zc_N (fun _ => 0)) (zc_N (fun _ => 0)) (fun _ => 0) (zc_E (fun _ => 1)) (zc_E (fun _ => 1)) (fun _ => 0) (fun _ => 0) (zc_N (fun _ => 0)) (zc_B (fun _ => false)) (zc_B (fun _ => false)) (zc_B (fun _ => false)) (zc_B (fun _ => false)) (zc_N (fun _ => 0)) (zc_N (fun _ => 0)) (zc_N (fun _ => 0)) (fun _ => 0) (fun _ => 0) (fun _ => 0) (zc_N (fun _ => 0)) (zc_N (fun _ => 0)) (zc_B (fun _ => false)) (zc_B (fun _ => false)) (zc_N (fun _ => 0)) (zc_E (fun _ => 1)) (fun _ => 0) (fun _ => 0) (fun _ => 0) (fun _ => 0) (fun _ => 0) := by
  refine ⟨n + 1, ?_⟩
  have h := zy_i289 (post := post) (n := n) (sc := sc) (lm := lm) (sv := sv) (rl := 0) (bg := 0) (gp := fun _ => 0) (gi := fun _ => 0) (gx := fun _ => 0) (gv := fun _ => 0) (gq := fun _ => 1) (gf := fun _ => 1) (gr := fun _ => 0) (ga := fun _ => 0) (go := fun _ => 0) (gs := fun _ => false) (gm := fun _ => false) (yp := fun _ => false) (yup := fun _ => false) (ix := fun _ => 0) (ic := fun _ => 0) (st := fun _ => 0) (un := fun _ => 0) (rp := fun _ => 0) (dc := fun _ => 0) (ch := fun _ => 0) (en := fun _ => 0) (kn := fun _ => false) (fl := fun _ => false) (to := fun _ => 0) (sf := fun _ => 1) (sr := fun _ => 0) (sa := fun _ => 0) (op := fun _ => 0) (ol := fun _ => 0) (ov := fun _ => 0) hn hp n 0 (by omega)
  simp only [zi_f0, zi_g0, zi_m0] at h
  exact h
end
end
section
/-! the new objects are related -/
section
variable {n sc lm sv rl bg : Nat} {xup xs gs gm yp yup kn fl : Nat → Bool} {ix ic st xo xp xt en xk xl xm gp gi gx gq gf go ch to sf : Nat → Nat} {un rp dc xv xrs xrr xra xss sr sa op ol ov gv gr ga : Nat → Int32}
theorem zi_fi {α : Type} {f : Nat → α} {k j : Nat} {v : Nat → α} (h : j < k) : zi_f f k v j = v j := if_pos h
theorem zi_fo {α : Type} {f : Nat → α} {k j : Nat} {v : Nat → α} (h : k ≤ j) : zi_f f k v j = f j := if_neg (by omega)
theorem zi_gi {α : Type} {f : Nat → α} {k q : Nat} {v : Nat → α} (h : q < k) : zi_g f k v (q * 16 + 0) = v q := by
  unfold zi_g
  rw [if_pos (by omega), show (q * 16 + 0) / 16 = q by omega]
theorem zr_F0 (hnum : zr_num n sc lm sv 0 0) : zr_F n sc lm sv (0) (0) (fun _ => 0) (fun _ => 0) (fun _ => 0) (fun _ => 0) (fun _ => 0) (zi_h (zi_f (fun _ => 1) 560 (fun _ => 0)) 4) (zi_f (fun _ => 1) 12 (fun _ => 0)) (fun _ => 0) (zi_f (fun _ => 0) 128 (fun _ => 16)) (zi_f (fun _ => 1) 128 (fun _ => 0)) (zi_f (fun _ => 0) n (fun j => j)) (fun _ => 0) (fun _ => 0) (fun _ => 0) (zi_g (fun _ => 0) n (fun j => j)) (fun _ => 0) (zi_f (fun _ => 1) n (fun _ => 0)) (zi_f (fun _ => 1) n (fun _ => 0)) (fun _ => 1) (zi_f (fun _ => false) 4 (fun _ => true)) (zi_f (fun _ => false) n (fun _ => true)) (fun _ => false) (fun _ => false) (zi_g (fun _ => false) 4 (fun _ => true)) (zi_f (fun _ => false) n (fun _ => true)) (zi_m (fun _ => false) n) (zi_f (fun _ => 0) n (fun j => nI (j + 1))) (fun _ => 0) (fun _ => 0) (zi_g (fun _ => 0) 4 (fun q => nI (q + 1))) (zi_g (fun _ => 0) 4 (fun _ => -2)) (fun _ => 0) (fun _ => 0) (fun _ => 0) (fun m z => decide (m = z + 1)) (fun m x => if m = x + 1 then 1 else 0) := by
  obtain ⟨hn, hsc, hlm, hsvn, hrl, hbg⟩ := hnum
  have hxt : ∀ j, zi_f (fun _ => 1) 12 (fun _ => 0) j ≤ 1 := by
    intro j; unfold zi_f; split <;> dsimp only <;> omega
  have hxp1 : ∀ j, zi_f (fun _ => 1) 560 (fun _ => 0) j ≤ 1 := by
    intro j; unfold zi_f; split <;> dsimp only <;> omega
  have hxp : ∀ j, zi_h (zi_f (fun _ => 1) 560 (fun _ => 0)) 4 j ≤ 1 := by
    intro j
    have := hxp1 j
    unfold zi_h
    split
    · exact Nat.le_refl _
    · exact this
  have hxl : ∀ j, zi_f (fun _ => 0) 128 (fun _ => 16) j ≤ 16 := by
    intro j; unfold zi_f; split <;> dsimp only <;> omega
  have hxm : ∀ j, zi_f (fun _ => 1) 128 (fun _ => 0) j ≤ 1 := by
    intro j; unfold zi_f; split <;> dsimp only <;> omega
  have hgp : ∀ j, zi_f (fun _ => 0) n (fun j => j) j < 4 := by
    intro j; unfold zi_f; split <;> dsimp only <;> omega
  have hch : ∀ j, zi_g (fun _ => 0) n (fun j => j) j < 124 := by
    intro j; unfold zi_g; split <;> dsimp only <;> omega
  have hgm : ∀ j, zi_m (fun _ => false) n j = true ↔ j % 5 = 0 ∧ j / 5 < n := by
    intro j
    unfold zi_m
    by_cases h : j % 5 = 0 ∧ j / 5 < n
    · rw [if_pos h]; exact ⟨fun _ => h, fun _ => rfl⟩
    · rw [if_neg h]; exact ⟨fun z => absurd z Bool.false_ne_true, fun z => absurd z h⟩
  have hD1 : ∀ m x : Nat, (if m = x + 1 then 1 else 0) ≠ 0 → m = x + 1 := by
    intro m x h
    by_cases h1 : m = x + 1
    · exact h1
    · rw [if_neg h1] at h; exact absurd rfl h
  refine ⟨⟨hn, hsc, hlm, hsvn, hrl, hbg⟩, ⟨fun _ => Nat.zero_le _, fun _ => Nat.zero_le _, fun _ => Nat.le_refl _, fun _ => Nat.zero_le _⟩, ⟨fun _ => Nat.zero_le _, fun j => by have := hxp j; omega, fun j => by have := hxt j; omega, fun _ => show (0 : Nat) < 256 by omega, hxl, fun j => by have := hxm j; omega⟩, ⟨hgp, fun _ => Nat.zero_le _, fun _ => Nat.zero_le _, fun _ => Nat.zero_le _, hch, fun _ => show (0 : Nat) < 4 by omega⟩, fun p hp => ?_, fun r x hr hx => ⟨fun k _ h => absurd h Bool.false_ne_true, fun k _ => Nat.zero_testBit k, fun a i ha hi => ?_⟩, fun p k hp hk => absurd hk (Nat.not_lt_zero _), ⟨fun z => decide_eq_false (show ¬ 0 = z + 1 by omega), fun u hu => ?_, fun u hu z => ?_⟩, ⟨fun u hu => ?_, fun u hu => ?_⟩, ⟨fun x => if_neg (show ¬ 0 = x + 1 by omega), fun m z hm hz => ?_, fun m x hm h0 => ?_, fun u hu => ?_⟩, fun u hu _ _ => Nat.le_refl _, ⟨fun p i hp hi => ?_, fun w hw h1 h2 => ?_, fun p i j z hp hij hj hz => ?_, fun p hp => zi_gi hp⟩, fun p i z hp hi hz => ⟨fun k hk => absurd hk (Nat.not_lt_zero _), fun k _ _ h => absurd h Bool.false_ne_true⟩, fun p i x hp hi hx => ?_, fun p i hp hi => ?_, fun s hs => ?_, ⟨fun r u hr hu hg => ?_, fun r u w hr hu hw h1 h2 h3 h4 => ?_, fun r x a hr hx hxr ha h0 => ?_⟩, fun p i hp hi => ?_, fun u hu => ⟨rfl, zi_fo (by omega), fun r hr => ?_⟩, fun p hp => Nat.zero_le _⟩
  · rw [zi_fi (by omega), zi_fi hp]
    exact ⟨rfl, fun h => absurd h (by decide), fun _ h => absurd h (Nat.not_lt_zero _)⟩
  · rw [zi_fi (by omega)]
    exact ⟨fun h => absurd (show 16 < i from h) (by omega), fun ⟨k, _, _, h, _⟩ => absurd h Bool.false_ne_true⟩
  · rw [zi_fi (by omega)]
    exact ⟨Nat.zero_le _, Nat.zero_le _⟩
  · rw [zi_fi (by omega)]
    dsimp only
    rw [decide_eq_true_eq, decide_eq_true_eq]
    omega
  · rw [zi_fi (by omega)]
    exact ⟨by omega, Nat.le_refl _, fun h => absurd h (Nat.not_lt_zero _)⟩
  · rw [zi_fi hu]
    exact ⟨rfl, rfl, rfl⟩
  · dsimp only at hz ⊢
    rw [decide_eq_true_eq] at hz
    rw [zi_fi (by omega), if_pos hz]
    exact ⟨by omega, Nat.zero_le _, Nat.zero_le _, fun k h1 h2 => absurd h2 (Nat.not_lt_zero _)⟩
  · have h1 := hD1 m x h0
    dsimp only
    refine ⟨x, decide_eq_true h1, zi_fi (by omega), if_pos h1⟩
  · rw [zi_fi (by omega)]
    exact if_pos rfl
  · obtain rfl : i = 0 := Nat.le_zero.mp hi
    rw [zi_gi hp]
    exact ⟨by omega, zi_fi hp, rfl, fun k _ h => absurd h (Nat.not_lt_zero _)⟩
  · rw [zi_fi (by omega)]
    exact zi_gi (by omega)
  · obtain rfl : i = j := by
      have hj0 : j = 0 := Nat.le_zero.mp hj
      omega
    exact hz
  · obtain rfl : i = 0 := Nat.le_zero.mp hi
    rw [zi_gi hp]
    refine ⟨?_, fun h => absurd h (by omega)⟩
    dsimp only
    unfold zi_h
    by_cases hxp : p = x
    · rw [if_pos (by omega), if_pos (by omega)]
    · rw [if_neg (by omega), if_neg (by omega), zi_fi (by omega)]
  · obtain rfl : i = 0 := Nat.le_zero.mp hi
    rw [zi_gi hp, zi_gi (by omega), zi_gi (by omega), zi_gi (by omega), zi_fi hp, zi_fi hp]
    exact ⟨rfl, rfl, rfl, rfl, rfl, rfl⟩
  · rw [zi_fi (by omega)]
    exact ⟨rfl, fun h => absurd rfl h⟩
  · rw [zi_fi (show u < n by omega)] at hg ⊢
    rw [hgm]
    refine ⟨fun h => absurd h (by omega), fun h => ?_⟩
    have h6 : 0 < zi_f (fun _ => 1) 128 (fun _ => 0) ((r * 4 + u) * 8 + 0) := h
    rw [zi_fi (by omega)] at h6
    exact absurd h6 (Nat.lt_irrefl _)
  · rw [zi_fi (show u < n by omega)] at h2
    rw [hgm] at h3
    omega
  · rw [zi_fi (by omega)] at h0
    exact absurd rfl h0
  · obtain rfl : i = 0 := Nat.le_zero.mp hi
    rw [zi_gi hp, hgm]
    exact ⟨fun _ => Nat.le_refl _, fun _ => by omega⟩
  · cases h : zi_m (fun _ => false) n (u * 4 + r) with
    | false => rfl
    | true =>
      rw [hgm] at h
      omega
end
theorem i_vc0 (k0 : Int32) (k1 : Int32) (k2 : Int32) (k3 : Int32) : wpX_init (fun u => wpY_init (fun v => i_Rel 4 u v) k0 k1 k2 k3) k0 k1 k2 k3 := by
  have h0 := zf_cl_in (v := k0) (lo := 2) (hi := 4) (by omega) (by omega)
  have h1 := zf_cl_in (v := k1) (lo := 2) (hi := 12) (by omega) (by omega)
  have h2 := zf_cl_in (v := k2) (lo := 3) (hi := 12) (by omega) (by omega)
  have h3 := zf_cl_in (v := k3) (lo := 1) (hi := 4) (by omega) (by omega)
  have F := zr_F0 (n := zf_cl k0 2 4) (sc := zf_cl k1 2 12) (lm := zf_cl k2 3 12) (sv := zf_cl k3 1 4) ⟨h0, h1, h2, h3, by omega, by omega⟩
  unfold wpX_init
  refine zx_clampU 2 4 (by omega) (by omega) ?_
  refine zx_clampU 2 12 (by omega) (by omega) ?_
  refine zx_clampU 3 12 (by omega) (by omega) ?_
  refine zx_clampU 1 4 (by omega) (by omega) ?_
  refine zx_init0 ?_
  unfold wpY_init
  refine zy_clampU 2 4 (by omega) (by omega) ?_
  refine zy_clampU 2 12 (by omega) (by omega) ?_
  refine zy_clampU 3 12 (by omega) (by omega) ?_
  refine zy_clampU 1 4 (by omega) (by omega) ?_
  refine zy_init0 h0.2 ?_
  exact zr_mk F
end
section
/-! what is owed -/
theorem i_vc_inject {k : Nat} {u : SX} {v : SY} (I : i_Rel k u v) (hk : k + 4 ≤ 2052) (v1 : Int32) (v2 : Int32) (v3 : Int32) : wpX_inject (fun r u' => wpY_inject (fun r' v' => r' = r ∧ i_Rel (k + 4) u' v') v v1 v2 v3) u v1 v2 v3 := I (fun u v => wpX_inject (fun r u' => wpY_inject (fun r' v' => r' = r ∧ i_Rel (k + 4) u' v') v v1 v2 v3) u v1 v2 v3) (fun n sc lm sv rl bg xup ix ic st un rp dc xv xs xo xrs xrr xra xp xt xss sr sa en xk xl xm op ol ov gp gi gx gv gq gf gr ga go gs gm yp yup ch kn fl to sf P D F => zt_inject F)
theorem i_vc_deliver {k : Nat} {u : SX} {v : SY} (I : i_Rel k u v) (hk : k + 4 ≤ 2052) (v1 : Int32) : wpX_deliver (fun r u' => wpY_deliver (fun r' v' => r' = r ∧ i_Rel (k + 4) u' v') v v1) u v1 := I (fun u v => wpX_deliver (fun r u' => wpY_deliver (fun r' v' => r' = r ∧ i_Rel (k + 4) u' v') v v1) u v1) (fun n sc lm sv rl bg xup ix ic st un rp dc xv xs xo xrs xrr xra xp xt xss sr sa en xk xl xm op ol ov gp gi gx gv gq gf gr ga go gs gm yp yup ch kn fl to sf P D F => zt_deliver F)
theorem i_vc_judge {k : Nat} {u : SX} {v : SY} (I : i_Rel k u v) (hk : k + 4 ≤ 2052) (v1 : Int32) : wpX_judge (fun r => wpY_judge (fun r' v' => r' = r ∧ i_Rel (k + 4) u v') v v1) u v1 := I (fun u v => wpX_judge (fun r => wpY_judge (fun r' v' => r' = r ∧ i_Rel (k + 4) u v') v v1) u v1) (fun n sc lm sv rl bg xup ix ic st un rp dc xv xs xo xrs xrr xra xp xt xss sr sa en xk xl xm op ol ov gp gi gx gv gq gf gr ga go gs gm yp yup ch kn fl to sf P D F => zt_judge F)
theorem i_vc_drop {k : Nat} {u : SX} {v : SY} (I : i_Rel k u v) (hk : k + 4 ≤ 2052) (v1 : Int32) : wpX_drop (fun r u' => wpY_drop (fun r' v' => r' = r ∧ i_Rel (k + 4) u' v') v v1) u v1 := I (fun u v => wpX_drop (fun r u' => wpY_drop (fun r' v' => r' = r ∧ i_Rel (k + 4) u' v') v v1) u v1) (fun n sc lm sv rl bg xup ix ic st un rp dc xv xs xo xrs xrr xra xp xt xss sr sa en xk xl xm op ol ov gp gi gx gv gq gf gr ga go gs gm yp yup ch kn fl to sf P D F => zt_drop F)
theorem i_vc_log {k : Nat} {u : SX} {v : SY} (I : i_Rel k u v) (hk : k + 4 ≤ 2052) (v1 : Int32) (v2 : Int32) : wpX_log (fun r u' => wpY_log (fun r' v' => r' = r ∧ i_Rel (k + 4) u' v') v v1 v2) u v1 v2 := I (fun u v => wpX_log (fun r u' => wpY_log (fun r' v' => r' = r ∧ i_Rel (k + 4) u' v') v v1 v2) u v1 v2) (fun n sc lm sv rl bg xup ix ic st un rp dc xv xs xo xrs xrr xra xp xt xss sr sa en xk xl xm op ol ov gp gi gx gv gq gf gr ga go gs gm yp yup ch kn fl to sf P D F => zt_log F)
theorem i_vc_checkpoint {k : Nat} {u : SX} {v : SY} (I : i_Rel k u v) (hk : k + 4 ≤ 2052) (v1 : Int32) : wpX_checkpoint (fun r u' => wpY_checkpoint (fun r' v' => r' = r ∧ i_Rel (k + 4) u' v') v v1) u v1 := I (fun u v => wpX_checkpoint (fun r u' => wpY_checkpoint (fun r' v' => r' = r ∧ i_Rel (k + 4) u' v') v v1) u v1) (fun n sc lm sv rl bg xup ix ic st un rp dc xv xs xo xrs xrr xra xp xt xss sr sa en xk xl xm op ol ov gp gi gx gv gq gf gr ga go gs gm yp yup ch kn fl to sf P D F => zt_checkpoint F)
theorem i_vc_crash {k : Nat} {u : SX} {v : SY} (I : i_Rel k u v) (hk : k + 4 ≤ 2052) (v1 : Int32) : wpX_crash (fun r u' => wpY_crash (fun r' v' => r' = r ∧ i_Rel (k + 4) u' v') v v1) u v1 := I (fun u v => wpX_crash (fun r u' => wpY_crash (fun r' v' => r' = r ∧ i_Rel (k + 4) u' v') v v1) u v1) (fun n sc lm sv rl bg xup ix ic st un rp dc xv xs xo xrs xrr xra xp xt xss sr sa en xk xl xm op ol ov gp gi gx gv gq gf gr ga go gs gm yp yup ch kn fl to sf P D F => zt_crash F)
theorem i_vc_recover {k : Nat} {u : SX} {v : SY} (I : i_Rel k u v) (hk : k + 4 ≤ 2052) (v1 : Int32) : wpX_recover (fun r u' => wpY_recover (fun r' v' => r' = r ∧ i_Rel (k + 4) u' v') v v1) u v1 := I (fun u v => wpX_recover (fun r u' => wpY_recover (fun r' v' => r' = r ∧ i_Rel (k + 4) u' v') v v1) u v1) (fun n sc lm sv rl bg xup ix ic st un rp dc xv xs xo xrs xrr xra xp xt xss sr sa en xk xl xm op ol ov gp gi gx gv gq gf gr ga go gs gm yp yup ch kn fl to sf P D F => zt_recover F)
theorem i_vc_announce {k : Nat} {u : SX} {v : SY} (I : i_Rel k u v) (hk : k + 4 ≤ 2052) (v1 : Int32) (v2 : Int32) (v3 : Int32) : wpX_announce (fun r u' => wpY_announce (fun r' v' => r' = r ∧ i_Rel (k + 4) u' v') v v1 v2 v3) u v1 v2 v3 := I (fun u v => wpX_announce (fun r u' => wpY_announce (fun r' v' => r' = r ∧ i_Rel (k + 4) u' v') v v1 v2 v3) u v1 v2 v3) (fun n sc lm sv rl bg xup ix ic st un rp dc xv xs xo xrs xrr xra xp xt xss sr sa en xk xl xm op ol ov gp gi gx gv gq gf gr ga go gs gm yp yup ch kn fl to sf P D F => zt_announce F)
theorem i_vc_notifyStable {k : Nat} {u : SX} {v : SY} (I : i_Rel k u v) (hk : k + 4 ≤ 2052) (v1 : Int32) (v2 : Int32) : wpX_notifyStable (fun r u' => wpY_notifyStable (fun r' v' => r' = r ∧ i_Rel (k + 4) u' v') v v1 v2) u v1 v2 := I (fun u v => wpX_notifyStable (fun r u' => wpY_notifyStable (fun r' v' => r' = r ∧ i_Rel (k + 4) u' v') v v1 v2) u v1 v2) (fun n sc lm sv rl bg xup ix ic st un rp dc xv xs xo xrs xrr xra xp xt xss sr sa en xk xl xm op ol ov gp gi gx gv gq gf gr ga go gs gm yp yup ch kn fl to sf P D F => zt_notifyStable F)
theorem i_vc_commit {k : Nat} {u : SX} {v : SY} (I : i_Rel k u v) (hk : k + 4 ≤ 2052) (v1 : Int32) : wpX_commit (fun r u' => wpY_commit (fun r' v' => r' = r ∧ i_Rel (k + 4) u' v') v v1) u v1 := I (fun u v => wpX_commit (fun r u' => wpY_commit (fun r' v' => r' = r ∧ i_Rel (k + 4) u' v') v v1) u v1) (fun n sc lm sv rl bg xup ix ic st un rp dc xv xs xo xrs xrr xra xp xt xss sr sa en xk xl xm op ol ov gp gi gx gv gq gf gr ga go gs gm yp yup ch kn fl to sf P D F => zt_commit F)
theorem i_vc_process {k : Nat} {u : SX} {v : SY} (I : i_Rel k u v) (hk : k + 4 ≤ 2052) (v1 : Int32) (v2 : Int32) : wpX_process (fun r => wpY_process (fun r' => r' = r ∧ i_Rel (k + 4) u v) v v1 v2) u v1 v2 := I (fun u v => wpX_process (fun r => wpY_process (fun r' => r' = r ∧ i_Rel (k + 4) u v) v v1 v2) u v1 v2) (fun n sc lm sv rl bg xup ix ic st un rp dc xv xs xo xrs xrr xra xp xt xss sr sa en xk xl xm op ol ov gp gi gx gv gq gf gr ga go gs gm yp yup ch kn fl to sf P D F => zt_process F)
theorem i_vc_interval {k : Nat} {u : SX} {v : SY} (I : i_Rel k u v) (hk : k + 4 ≤ 2052) (v1 : Int32) (v2 : Int32) (v3 : Int32) : wpX_interval (fun r => wpY_interval (fun r' => r' = r ∧ i_Rel (k + 4) u v) v v1 v2 v3) u v1 v2 v3 := I (fun u v => wpX_interval (fun r => wpY_interval (fun r' => r' = r ∧ i_Rel (k + 4) u v) v v1 v2 v3) u v1 v2 v3) (fun n sc lm sv rl bg xup ix ic st un rp dc xv xs xo xrs xrr xra xp xt xss sr sa en xk xl xm op ol ov gp gi gx gv gq gf gr ga go gs gm yp yup ch kn fl to sf P D F => zt_interval F)
theorem i_vc_dependency {k : Nat} {u : SX} {v : SY} (I : i_Rel k u v) (hk : k + 4 ≤ 2052) (v1 : Int32) (v2 : Int32) (v3 : Int32) : wpX_dependency (fun r => wpY_dependency (fun r' v' => r' = r ∧ i_Rel (k + 4) u v') v v1 v2 v3) u v1 v2 v3 := I (fun u v => wpX_dependency (fun r => wpY_dependency (fun r' v' => r' = r ∧ i_Rel (k + 4) u v') v v1 v2 v3) u v1 v2 v3) (fun n sc lm sv rl bg xup ix ic st un rp dc xv xs xo xrs xrr xra xp xt xss sr sa en xk xl xm op ol ov gp gi gx gv gq gf gr ga go gs gm yp yup ch kn fl to sf P D F => zt_dependency F)
theorem i_vc_receiptDependency {k : Nat} {u : SX} {v : SY} (I : i_Rel k u v) (hk : k + 4 ≤ 2052) (v1 : Int32) (v2 : Int32) (v3 : Int32) : wpX_receiptDependency (fun r => wpY_receiptDependency (fun r' v' => r' = r ∧ i_Rel (k + 4) u v') v v1 v2 v3) u v1 v2 v3 := I (fun u v => wpX_receiptDependency (fun r => wpY_receiptDependency (fun r' v' => r' = r ∧ i_Rel (k + 4) u v') v v1 v2 v3) u v1 v2 v3) (fun n sc lm sv rl bg xup ix ic st un rp dc xv xs xo xrs xrr xra xp xt xss sr sa en xk xl xm op ol ov gp gi gx gv gq gf gr ga go gs gm yp yup ch kn fl to sf P D F => zt_receiptDependency F)
theorem i_vc_endOf {k : Nat} {u : SX} {v : SY} (I : i_Rel k u v) (hk : k + 4 ≤ 2052) (v1 : Int32) (v2 : Int32) : wpX_endOf (fun r => wpY_endOf (fun r' => r' = r ∧ i_Rel (k + 4) u v) v v1 v2) u v1 v2 := I (fun u v => wpX_endOf (fun r => wpY_endOf (fun r' => r' = r ∧ i_Rel (k + 4) u v) v v1 v2) u v1 v2) (fun n sc lm sv rl bg xup ix ic st un rp dc xv xs xo xrs xrr xra xp xt xss sr sa en xk xl xm op ol ov gp gi gx gv gq gf gr ga go gs gm yp yup ch kn fl to sf P D F => zt_endOf F)
theorem i_vc_knows {k : Nat} {u : SX} {v : SY} (I : i_Rel k u v) (hk : k + 4 ≤ 2052) (v1 : Int32) (v2 : Int32) (v3 : Int32) : wpX_knows (fun r => wpY_knows (fun r' => r' = r ∧ i_Rel (k + 4) u v) v v1 v2 v3) u v1 v2 v3 := I (fun u v => wpX_knows (fun r => wpY_knows (fun r' => r' = r ∧ i_Rel (k + 4) u v) v v1 v2 v3) u v1 v2 v3) (fun n sc lm sv rl bg xup ix ic st un rp dc xv xs xo xrs xrr xra xp xt xss sr sa en xk xl xm op ol ov gp gi gx gv gq gf gr ga go gs gm yp yup ch kn fl to sf P D F => zt_knows F)
theorem i_vc_seen {k : Nat} {u : SX} {v : SY} (I : i_Rel k u v) (hk : k + 4 ≤ 2052) (v1 : Int32) (v2 : Int32) : wpX_seen (fun r => wpY_seen (fun r' => r' = r ∧ i_Rel (k + 4) u v) v v1 v2) u v1 v2 := I (fun u v => wpX_seen (fun r => wpY_seen (fun r' => r' = r ∧ i_Rel (k + 4) u v) v v1 v2) u v1 v2) (fun n sc lm sv rl bg xup ix ic st un rp dc xv xs xo xrs xrr xra xp xt xss sr sa en xk xl xm op ol ov gp gi gx gv gq gf gr ga go gs gm yp yup ch kn fl to sf P D F => zt_seen F)
theorem i_vc_slot {k : Nat} {u : SX} {v : SY} (I : i_Rel k u v) (hk : k + 4 ≤ 2052) (v1 : Int32) (v2 : Int32) : wpX_slot (fun r => wpY_slot (fun r' => r' = r ∧ i_Rel (k + 4) u v) v v1 v2) u v1 v2 := I (fun u v => wpX_slot (fun r => wpY_slot (fun r' => r' = r ∧ i_Rel (k + 4) u v) v v1 v2) u v1 v2) (fun n sc lm sv rl bg xup ix ic st un rp dc xv xs xo xrs xrr xra xp xt xss sr sa en xk xl xm op ol ov gp gi gx gv gq gf gr ga go gs gm yp yup ch kn fl to sf P D F => zt_slot F)
theorem i_vc_slotDependency {k : Nat} {u : SX} {v : SY} (I : i_Rel k u v) (hk : k + 4 ≤ 2052) (v1 : Int32) (v2 : Int32) : wpX_slotDependency (fun r => wpY_slotDependency (fun r' v' => r' = r ∧ i_Rel (k + 4) u v') v v1 v2) u v1 v2 := I (fun u v => wpX_slotDependency (fun r => wpY_slotDependency (fun r' v' => r' = r ∧ i_Rel (k + 4) u v') v v1 v2) u v1 v2) (fun n sc lm sv rl bg xup ix ic st un rp dc xv xs xo xrs xrr xra xp xt xss sr sa en xk xl xm op ol ov gp gi gx gv gq gf gr ga go gs gm yp yup ch kn fl to sf P D F => zt_slotDependency F)
theorem i_vc_total {k : Nat} {u : SX} {v : SY} (I : i_Rel k u v) (hk : k + 4 ≤ 2052) (v1 : Int32) : wpX_total (fun r => wpY_total (fun r' => r' = r ∧ i_Rel (k + 4) u v) v v1) u v1 := I (fun u v => wpX_total (fun r => wpY_total (fun r' => r' = r ∧ i_Rel (k + 4) u v) v v1) u v1) (fun n sc lm sv rl bg xup ix ic st un rp dc xv xs xo xrs xrr xra xp xt xss sr sa en xk xl xm op ol ov gp gi gx gv gq gf gr ga go gs gm yp yup ch kn fl to sf P D F => zt_total F)
theorem i_vc_output {k : Nat} {u : SX} {v : SY} (I : i_Rel k u v) (hk : k + 4 ≤ 2052) (v1 : Int32) (v2 : Int32) : wpX_output (fun r => wpY_output (fun r' => r' = r ∧ i_Rel (k + 4) u v) v v1 v2) u v1 v2 := I (fun u v => wpX_output (fun r => wpY_output (fun r' => r' = r ∧ i_Rel (k + 4) u v) v v1 v2) u v1 v2) (fun n sc lm sv rl bg xup ix ic st un rp dc xv xs xo xrs xrr xra xp xt xss sr sa en xk xl xm op ol ov gp gi gx gv gq gf gr ga go gs gm yp yup ch kn fl to sf P D F => zt_output F)
end
