section
theorem pk_us {f : Nat → Int32} {k : Nat} {x : Int32} : upd f k x k = x := if_pos rfl
theorem pk_un {f : Nat → Int32} {k j : Nat} {x : Int32} (h : j ≠ k) : upd f k x j = f j := if_neg h
theorem pk_uLs {f : Nat → Int64} {k : Nat} {x : Int64} : vp_updL f k x k = x := if_pos rfl
theorem pk_uLn {f : Nat → Int64} {k j : Nat} {x : Int64} (h : j ≠ k) : vp_updL f k x j = f j := if_neg h
theorem pk_sub {a b : Nat} (h : b ≤ a) : nI a - nI b = nI (a - b) := by
  obtain ⟨c, rfl⟩ : ∃ c, a = c + b := ⟨a - b, by omega⟩
  rw [← nI_add, Int32.add_sub_cancel, Nat.add_sub_cancel]
theorem pk_m1 (n : Nat) : nI (n + 1) + (-1) = nI n := by
  rw [← nI_1, Int32.add_assoc, show (1 : Int32) + (-1) = 0 from rfl, Int32.add_zero]
theorem pk_mul (a b : Nat) : nI a * nI b = nI (a * b) := (Int32.ofNat_mul a b).symm
theorem pk_div {a d : Nat} (ha : a < 2 ^ 31) (h0 : 0 < d) (hd : d < 2 ^ 31) : nI a / nI d = nI (a / d) := by
  apply Int32.toInt_inj.mp
  rw [lg_idiv_nonneg (by rw [nI_toInt ha]; omega) (by rw [nI_toInt hd]; omega), nI_toInt ha, nI_toInt hd, nI_toInt (Nat.lt_of_le_of_lt (Nat.div_le_self a d) ha)]
  first | rfl | exact (Int.natCast_ediv _ _).symm
theorem pk_rem {a d : Nat} (ha : a < 2 ^ 31) (h0 : 0 < d) (hd : d < 2 ^ 31) : nI a - nI a / nI d * nI d = nI (a % d) := by
  rw [pk_div ha h0 hd, pk_mul, pk_sub (Nat.div_mul_le_self a d)]
  exact congrArg nI (by have := Nat.div_add_mod' a d; omega)
theorem pk_sub_toInt {a b : Nat} (ha : a < 2 ^ 30) (hb : b < 2 ^ 30) : (nI a - nI b).toInt = (a : Int) - b := by
  rw [Int32.toInt_sub, nI_toInt (by omega), nI_toInt (by omega)]
  exact Int.bmod_eq_of_le (by omega) (by omega)
theorem pk_sneg {a b : Nat} (hb : b < 2 ^ 30) (h : a < b) : nI a - nI b < 0 := by
  rw [Int32.lt_iff_toInt_lt, pk_sub_toInt (by omega) hb, show (0 : Int32).toInt = 0 from by decide]
  omega
theorem pk_ix (x : Int32) {n : Nat} (hn : n < 2 ^ 31) : x < 0 ∨ nI n ≤ x ∨ ∃ j : Nat, j < n ∧ x = nI j := by
  by_cases h : x < 0
  · exact Or.inl h
  · obtain ⟨j, hj, rfl⟩ := nI_of h
    by_cases h2 : j < n
    · exact Or.inr (Or.inr ⟨j, h2, rfl⟩)
    · exact Or.inr (Or.inl (nI_le (by omega) hj))
theorem pk_le {x y : Int32} {A B : Prop} (a b : Nat) (f : a ≤ b → A) (g : b < a → B) (hx : x = nI a := by rfl) (hy : y = nI b := by rfl) (ha : a < 2 ^ 31 := by omega) (hb : b < 2 ^ 31 := by omega) : (x ≤ y → A) ∧ (¬ x ≤ y → B) := by
  subst hx hy
  rw [nI_leI ha hb]
  exact ⟨f, fun z => g (by omega)⟩
theorem pk_lt {x y : Int32} {A B : Prop} (a b : Nat) (f : a < b → A) (g : b ≤ a → B) (hx : x = nI a := by rfl) (hy : y = nI b := by rfl) (ha : a < 2 ^ 31 := by omega) (hb : b < 2 ^ 31 := by omega) : (x < y → A) ∧ (¬ x < y → B) := by
  subst hx hy
  rw [nI_ltI ha hb]
  exact ⟨f, fun z => g (by omega)⟩
theorem pk_eq {x y : Int32} {A B : Prop} (a b : Nat) (f : a = b → A) (g : a ≠ b → B) (hx : x = nI a := by rfl) (hy : y = nI b := by rfl) (ha : a < 2 ^ 31 := by omega) (hb : b < 2 ^ 31 := by omega) : (x = y → A) ∧ (¬ x = y → B) := by
  subst hx hy
  rw [nI_eq ha hb]
  exact ⟨f, g⟩
theorem pk_in {x : Int32} (n N : Nat) (h : n < N) (hx : x = nI n := by rfl) (hN : N < 2 ^ 31 := by omega) : vp_in x N := by
  subst hx
  exact vp_in_nI h hN
theorem pk_cl {x : Int32} (n : Nat) (hx : x = nI n := by rfl) (h : n < 2 ^ 31 := by omega) : x.toNatClampNeg = n := by
  subst hx
  exact nI_clamp h
theorem pk_tn {n : Nat} (h : n < 2 ^ 32) : (nI n).toBitVec.toNat = n := Nat.mod_eq_of_lt h
theorem pk_and (x : Int32) {m : Int32} (k : Nat) (hm : m.toBitVec.toNat = 2 ^ k - 1) : x &&& m = nI (x.toBitVec.toNat % 2 ^ k) := by
  apply Int32.toBitVec_inj.mp
  apply BitVec.eq_of_toNat_eq
  rw [Int32.toBitVec_and, BitVec.toNat_and, hm, Nat.and_two_pow_sub_one_eq_mod]
  show _ = (BitVec.ofNat 32 _).toNat
  rw [BitVec.toNat_ofNat]
  exact (Nat.mod_eq_of_lt (Nat.lt_of_le_of_lt (Nat.mod_le _ _) x.toBitVec.isLt)).symm
theorem pk_andN {n : Nat} (h : n < 2 ^ 32) {m : Int32} (k : Nat) (hm : m.toBitVec.toNat = 2 ^ k - 1) : nI n &&& m = nI (n % 2 ^ k) := by
  rw [pk_and _ k hm, pk_tn h]
theorem pk_andE (x : Int32) {m : Int32} (k : Nat) (hm : m.toBitVec.toNat = 2 ^ k - 1) : ∃ j : Nat, j < 2 ^ k ∧ x &&& m = nI j := ⟨_, Nat.mod_lt _ (Nat.two_pow_pos k), pk_and x k hm⟩
theorem pk_andIn (x : Int32) {m : Int32} (k : Nat) (hm : m.toBitVec.toNat = 2 ^ k - 1) (hk : k ≤ 30) : vp_in (x &&& m) (2 ^ k) := by
  obtain ⟨j, hj, e⟩ := pk_andE x k hm
  rw [e]
  exact vp_in_nI hj (Nat.lt_of_le_of_lt (Nat.pow_le_pow_right (by decide) hk) (by decide))
theorem pk_shl (a s : Int32) (k : Nat) (hs : (s.toBitVec.smod 32).toNat = k) : (a <<< s).toBitVec.toNat = a.toBitVec.toNat * 2 ^ k % 2 ^ 32 := by
  show (a.toBitVec <<< (s.toBitVec.smod 32).toNat).toNat = _
  rw [hs, BitVec.toNat_shiftLeft, Nat.shiftLeft_eq]
theorem pk_shlN {n : Nat} (s : Int32) (k : Nat) (hs : (s.toBitVec.smod 32).toNat = k) (h : n * 2 ^ k < 2 ^ 32) : nI n <<< s = nI (n * 2 ^ k) := by
  apply Int32.toBitVec_inj.mp
  apply BitVec.eq_of_toNat_eq
  have hn : n < 2 ^ 32 := Nat.lt_of_le_of_lt (Nat.le_mul_of_pos_right n (Nat.two_pow_pos k)) h
  rw [pk_shl _ _ k hs, pk_tn hn, pk_tn h, Nat.mod_eq_of_lt h]
theorem pk_shr (a s : Int32) (k : Nat) (hs : (s.toBitVec.smod 32).toNat = k) : (a >>> s).toInt = a.toInt >>> k := by
  show (a.toBitVec.sshiftRight (s.toBitVec.smod 32).toNat).toInt = _
  rw [hs, BitVec.toInt_sshiftRight]
  rfl
theorem pk_shrN {n : Nat} (h : n < 2 ^ 31) (s : Int32) (k : Nat) (hs : (s.toBitVec.smod 32).toNat = k) : nI n >>> s = nI (n / 2 ^ k) := by
  apply Int32.toInt_inj.mp
  have h2 : n / 2 ^ k ≤ n := Nat.div_le_self _ _
  rw [pk_shr _ _ k hs, nI_toInt h, nI_toInt (by omega), Int.shiftRight_eq_div_pow]
  rfl
theorem pk_least (P : Nat → Prop) (h : ∃ k, P k) : ∃ k, P k ∧ ∀ j, j < k → ¬ P j := by
  obtain ⟨k, hk⟩ := h
  induction k using Nat.strongRecOn with
  | ind k ih =>
    by_cases e : ∃ j, j < k ∧ P j
    · obtain ⟨j, hj, pj⟩ := e
      exact ih j hj pj
    · exact ⟨k, hk, fun j hj pj => e ⟨j, hj, pj⟩⟩
def bt (x : Int32) (i : Nat) : Bool := x.toBitVec.getLsbD i
theorem b_ext {x y : Int32} (h : ∀ i, i < 32 → bt x i = bt y i) : x = y := Int32.toBitVec_inj.mp (BitVec.eq_of_getLsbD_eq (fun i hi => h i hi))
theorem b_or (x y : Int32) (i : Nat) : bt (x ||| y) i = (bt x i || bt y i) := by unfold bt; rw [Int32.toBitVec_or, BitVec.getLsbD_or]
theorem b_and (x y : Int32) (i : Nat) : bt (x &&& y) i = (bt x i && bt y i) := by unfold bt; rw [Int32.toBitVec_and, BitVec.getLsbD_and]
theorem b_xor (x y : Int32) (i : Nat) : bt (x ^^^ y) i = (bt x i ^^ bt y i) := by unfold bt; rw [Int32.toBitVec_xor, BitVec.getLsbD_xor]
theorem b_big {x : Int32} {i : Nat} (h : 32 ≤ i) : bt x i = false := BitVec.getLsbD_of_ge _ _ h
theorem b_255 (i : Nat) : bt 255 i = decide (i < 8) := by
  rcases Nat.lt_or_ge i 32 with h | h
  · exact (by decide +kernel : ∀ i, i < 32 → bt 255 i = decide (i < 8)) i h
  · rw [b_big h, decide_eq_false (by omega)]
theorem b_65535 (i : Nat) : bt 65535 i = decide (i < 16) := by
  rcases Nat.lt_or_ge i 32 with h | h
  · exact (by decide +kernel : ∀ i, i < 32 → bt 65535 i = decide (i < 16)) i h
  · rw [b_big h, decide_eq_false (by omega)]
theorem b_m1 : ∀ i, i < 32 → bt (-1) i = true := by decide +kernel
theorem b_0 (i : Nat) : bt 0 i = false := BitVec.getLsbD_zero
theorem s_l : ∀ n, n < 32 → ((nI n &&& 31).toBitVec.smod 32).toNat = n := by decide +kernel
theorem s_u : ∀ n, n < 32 → (((nI n).toUInt32 &&& Int32.toUInt32 31).toBitVec % 32).toNat = n := by decide +kernel
theorem b_shl (n : Nat) (hn : n < 32) (x : Int32) {i : Nat} (hi : i < 32) : bt (x <<< (nI n &&& 31)) i = (decide (n ≤ i) && bt x (i - n)) := by
  unfold bt
  rw [Int32.toBitVec_shiftLeft]
  show (x.toBitVec <<< ((nI n &&& 31).toBitVec.smod 32).toNat).getLsbD i = _
  rw [s_l n hn, BitVec.getLsbD_shiftLeft]
  rcases Nat.lt_or_ge i n with h | h
  · simp [h, Nat.not_le.mpr h]
  · simp [hi, h, Nat.not_lt.mpr h]
theorem b_ushr (n : Nat) (hn : n < 32) (x : Int32) (i : Nat) : bt ((x.toUInt32 >>> ((nI n).toUInt32 &&& Int32.toUInt32 31)).toInt32) i = bt x (n + i) := by
  show (x.toUInt32 >>> ((nI n).toUInt32 &&& Int32.toUInt32 31)).toBitVec.getLsbD i = x.toUInt32.toBitVec.getLsbD (n + i)
  rw [UInt32.toBitVec_shiftRight]
  show (x.toUInt32.toBitVec >>> (((nI n).toUInt32 &&& Int32.toUInt32 31).toBitVec % 32).toNat).getLsbD i = _
  rw [s_u n hn, BitVec.getLsbD_ushiftRight]
theorem b_sshr (n : Nat) (hn : n < 32) (x : Int32) {i : Nat} (hi : i < 32) : bt (x >>> (nI n &&& 31)) i = if n + i < 32 then bt x (n + i) else bt x 31 := by
  unfold bt
  rw [Int32.toBitVec_shiftRight]
  show (x.toBitVec.sshiftRight ((nI n &&& 31).toBitVec.smod 32).toNat).getLsbD i = _
  rw [s_l n hn, BitVec.getLsbD_sshiftRight, BitVec.msb_eq_getLsbD_last]
  simp [hi]
theorem b_shl8 (x : Int32) {i : Nat} (hi : i < 32) : bt (x <<< ((8 : Int32) &&& 31)) i = (decide (8 ≤ i) && bt x (i - 8)) := b_shl 8 (by omega) x hi
theorem b_shl16 (x : Int32) {i : Nat} (hi : i < 32) : bt (x <<< ((16 : Int32) &&& 31)) i = (decide (16 ≤ i) && bt x (i - 16)) := b_shl 16 (by omega) x hi
theorem b_shl24 (x : Int32) {i : Nat} (hi : i < 32) : bt (x <<< ((24 : Int32) &&& 31)) i = (decide (24 ≤ i) && bt x (i - 24)) := b_shl 24 (by omega) x hi
theorem b_sshr8 (x : Int32) {i : Nat} (hi : i < 32) : bt (x >>> ((8 : Int32) &&& 31)) i = if 8 + i < 32 then bt x (8 + i) else bt x 31 := b_sshr 8 (by omega) x hi
/-! ===== nI under and, xor, >>>, one bit, 65535 ===== -/
theorem nx_and (a b : Nat) : nI a &&& nI b = nI (a &&& b) := by
  apply Int32.toBitVec_inj.1
  show BitVec.ofNat 32 a &&& BitVec.ofNat 32 b = BitVec.ofNat 32 (a &&& b)
  apply BitVec.eq_of_getLsbD_eq
  intro i hi
  simp [hi]
end
section
/-! bits of a mask, keys of age -/
theorem qm_1b : ∀ i, i < 32 → bt 1 i = decide (i = 0) := by decide +kernel
theorem qm_b1 {j i : Nat} (hj : j < 32) (hi : i < 32) : bt ((1 : Int32) <<< (nI j &&& 31)) i = decide (i = j) := by
  rw [b_shl j hj _ hi, qm_1b _ (by omega), Bool.eq_iff_iff]
  simp only [Bool.and_eq_true, decide_eq_true_eq]
  omega
theorem qm_bn {x : Int32} {i : Nat} (hi : i < 32) : bt (x ^^^ (-1)) i = !bt x i := by
  rw [b_xor, b_m1 i hi]
  cases bt x i <;> rfl
theorem qm_bcl {x : Int32} {j i : Nat} (hj : j < 32) (hi : i < 32) : bt (x &&& (((1 : Int32) <<< (nI j &&& 31)) ^^^ (-1))) i = (bt x i && !decide (i = j)) := by
  rw [b_and, qm_bn hi, qm_b1 hj hi]
theorem qm_bst {x : Int32} {j i : Nat} (hj : j < 32) (hi : i < 32) : bt (x ||| ((1 : Int32) <<< (nI j &&& 31))) i = (bt x i || decide (i = j)) := by
  rw [b_or, qm_b1 hj hi]
theorem qm_a0 {x : Int32} {j : Nat} (hj : j < 32) : (x &&& ((1 : Int32) <<< (nI j &&& 31))) = 0 ↔ bt x j = false := by
  constructor
  · intro h
    have e := b_and x ((1 : Int32) <<< (nI j &&& 31)) j
    rw [h, b_0, qm_b1 hj hj] at e
    simpa using e.symm
  · intro h
    apply b_ext
    intro i hi
    rw [b_and, qm_b1 hj hi, b_0]
    by_cases e : i = j
    · subst e; rw [h]; rfl
    · simp [e]
theorem qm_aa {x y : Int32} : (x &&& y) = 0 ↔ ∀ i, i < 32 → bt x i = true → bt y i = false := by
  constructor
  · intro h i hi hx
    have e := b_and x y i
    rw [h, b_0, hx] at e
    simpa using e.symm
  · intro h
    apply b_ext
    intro i hi
    rw [b_and, b_0]
    cases hx : bt x i
    · rfl
    · rw [h i hi hx]; rfl
theorem qm_z {x : Int32} : x = 0 ↔ ∀ i, i < 32 → bt x i = false := by
  constructor
  · intro h i _; rw [h, b_0]
  · intro h; apply b_ext; intro i hi; rw [h i hi, b_0]
theorem qm_or (a b : Nat) : nI a ||| nI b = nI (a ||| b) := by
  apply Int32.toBitVec_inj.1
  show BitVec.ofNat 32 a ||| BitVec.ofNat 32 b = BitVec.ofNat 32 (a ||| b)
  apply BitVec.eq_of_getLsbD_eq
  intro i hi
  simp [hi]
theorem qm_key {s n : Nat} (hs : s < 1048576) (hn : n < 16) : (nI s <<< ((4 : Int32) &&& 31)) ||| nI n = nI (16 * s + n) := by
  rw [pk_shlN _ 4 (by decide) (by omega), qm_or]
  have e := Nat.two_pow_add_eq_or_of_lt (i := 4) (b := n) (by omega) s
  rw [Nat.mul_comm s (2 ^ 4), ← e]
theorem qm_k15 {k : Nat} (h : k < 2 ^ 31) : nI k &&& 15 = nI (k % 16) := by
  rw [pk_andN (m := 15) (by omega) 4 (by decide)]
theorem qm_k4 {k : Nat} (h : k < 2 ^ 31) : nI k >>> ((4 : Int32) &&& 31) = nI (k / 16) := by
  rw [pk_shrN h _ 4 (by decide)]
theorem qm_m1n : (-1 : Int32) < 0 := by decide
theorem qm_m1m : ¬ (0 : Int32) ≤ -1 := by decide
theorem qm_nm1 {n : Nat} (h : n < 2 ^ 31) : nI n ≠ -1 := by
  intro e
  have := nI_pos h
  rw [e] at this
  exact this qm_m1n
theorem qm_idx {a b : Nat} : nI a * 9 + nI b = nI (a * 9 + b) := by
  show nI a * nI 9 + nI b = _
  rw [pk_mul, nI_add]
theorem qm_i9 {a : Nat} : nI a * 9 = nI (a * 9) := by
  show nI a * nI 9 = _
  rw [pk_mul]
/-- update of a function on Nat -/
def qm_up (w : Nat → Nat) (j x : Nat) : Nat → Nat := fun i => if i = j then x else w i
theorem qm_us {w : Nat → Nat} {j x : Nat} : qm_up w j x j = x := if_pos rfl
theorem qm_un {w : Nat → Nat} {j x i : Nat} (h : i ≠ j) : qm_up w j x i = w i := if_neg h
theorem qm_usame {w : Nat → Nat} {j x : Nat} (h : w j = x) : qm_up w j x = w := by
  funext i
  by_cases e : i = j
  · subst e; rw [qm_us, h]
  · rw [qm_un e]
theorem qm_uu {w : Nat → Nat} {j x y : Nat} : qm_up (qm_up w j x) j y = qm_up w j y := by
  funext i
  by_cases e : i = j
  · subst e; rw [qm_us, qm_us]
  · rw [qm_un e, qm_un e, qm_un e]
theorem qm_un9 {w : Nat → Nat} {a b n m x : Nat} (hn : n < 9) (hm : m < 9) (h : b ≠ a ∨ m ≠ n) : qm_up w (a * 9 + n) x (b * 9 + m) = w (b * 9 + m) := qm_un (by omega)
/-- the array holds the naturals -/
def qm_rep (t : Nat → Int32) (w : Nat → Nat) : Prop := ∀ i, t i = nI (w i)
theorem qm_rep_up {t : Nat → Int32} {w : Nat → Nat} (h : qm_rep t w) (j x : Nat) : qm_rep (upd t j (nI x)) (qm_up w j x) := by
  intro i
  by_cases e : i = j
  · subst e; rw [pk_us, qm_us]
  · rw [pk_un e, qm_un e, h i]
end
section
/-! chains of links -/
def qm_hd : List Nat → Int32
  | [] => -1
  | s :: _ => nI s
def qm_ch (nx : Nat → Int32) : List Nat → Prop
  | [] => True
  | s :: l => nx s = qm_hd l ∧ qm_ch nx l
theorem qm_hd0 : qm_hd [] = -1 := rfl
theorem qm_hd1 (s : Nat) (l : List Nat) : qm_hd (s :: l) = nI s := rfl
theorem qm_hda (A : List Nat) (b : Nat) (B C : List Nat) : qm_hd (A ++ b :: B) = qm_hd (A ++ b :: C) := by
  cases A <;> rfl
theorem qm_hdb (A : List Nat) (b : Nat) (B C : List Nat) : qm_hd ((A ++ [b]) ++ B) = qm_hd ((A ++ [b]) ++ C) := by
  cases A <;> rfl
theorem qm_ch_un {nx : Nat → Int32} {s : Nat} {v : Int32} : ∀ {l : List Nat}, s ∉ l → qm_ch nx l → qm_ch (upd nx s v) l
  | [], _, _ => trivial
  | a :: l, h, c => by
    have h1 : a ≠ s := fun e => h (by rw [e]; exact List.mem_cons_self)
    have h2 : s ∉ l := fun e => h (List.mem_cons_of_mem _ e)
    exact ⟨by rw [pk_un h1]; exact c.1, qm_ch_un h2 c.2⟩
theorem qm_ch_suf {nx : Nat → Int32} : ∀ {A B : List Nat}, qm_ch nx (A ++ B) → qm_ch nx B
  | [], _, c => c
  | _ :: _, _, c => qm_ch_suf c.2
/-- the link of b is set to the head of B: b is followed by B -/
theorem qm_ch_set {nx : Nat → Int32} {b : Nat} {B C : List Nat} : ∀ {A : List Nat}, qm_ch nx (A ++ b :: C) → b ∉ A → b ∉ B → qm_ch nx B → qm_ch (upd nx b (qm_hd B)) (A ++ b :: B)
  | [], _, _, hb, c => ⟨pk_us, qm_ch_un hb c⟩
  | a :: A, h, ha, hb, c => by
    have h1 : a ≠ b := fun e => ha (by rw [e]; exact List.mem_cons_self)
    have h2 : b ∉ A := fun e => ha (List.mem_cons_of_mem _ e)
    refine ⟨?_, qm_ch_set h.2 h2 hb c⟩
    rw [pk_un h1, h.1]
    exact qm_hda A b C B
theorem qm_ch_at {nx : Nat → Int32} {s : Nat} : ∀ {A B : List Nat}, qm_ch nx (A ++ s :: B) → nx s = qm_hd B
  | [], _, c => c.1
  | _ :: _, _, c => qm_ch_at c.2
theorem qm_hd_neg {l : List Nat} (h : qm_hd l < 0) (hb : ∀ s, s ∈ l → s < 200) : l = [] := by
  cases l with
  | nil => rfl
  | cons s l => exact absurd h (nI_pos (by have := hb s List.mem_cons_self; omega))
theorem qm_hd_eq {s : Nat} {l : List Nat} (hs : s < 200) (hb : ∀ s, s ∈ l → s < 200) (h : qm_hd l = nI s) : ∃ l', l = s :: l' := by
  cases l with
  | nil => exact absurd h.symm (qm_nm1 (by omega))
  | cons a l =>
    have := hb a List.mem_cons_self
    have e : a = s := (nI_eq (by omega) (by omega)).mp h
    exact ⟨l, by rw [e]⟩
theorem qm_rcons (l : List Nat) : l = [] ∨ ∃ A b, l = A ++ [b] := by
  rcases List.eq_nil_or_concat l with h | ⟨A, b, h⟩
  · exact Or.inl h
  · exact Or.inr ⟨A, b, by rw [h, List.concat_eq_append]⟩
theorem qm_len {l : List Nat} {n : Nat} (hd : l.Nodup) (hb : ∀ x, x ∈ l → x < n) : l.length ≤ n := by
  have h := hd.length_le_of_subset (l₂ := List.range n) (fun x hx => List.mem_range.mpr (hb x hx))
  rwa [List.length_range] at h
/-- how many numbers below n have P -/
def qm_cnt (P : Nat → Bool) : Nat → Nat
  | 0 => 0
  | n + 1 => qm_cnt P n + (if P n then 1 else 0)
theorem qm_cnt_le (P : Nat → Bool) : ∀ n, qm_cnt P n ≤ n
  | 0 => Nat.le_refl _
  | n + 1 => by
    have := qm_cnt_le P n
    simp only [qm_cnt]
    split <;> omega
theorem qm_cnt_congr {P R : Nat → Bool} : ∀ {n : Nat}, (∀ i, i < n → P i = R i) → qm_cnt P n = qm_cnt R n
  | 0, _ => rfl
  | n + 1, h => by
    simp only [qm_cnt]
    rw [qm_cnt_congr (fun i hi => h i (by omega)), h n (by omega)]
theorem qm_cnt_one {P R : Nat → Bool} {c : Nat} (hp : P c = false) (hr : R c = true) : ∀ {n : Nat}, c < n → (∀ i, i < n → i ≠ c → P i = R i) → qm_cnt R n = qm_cnt P n + 1
  | 0, h, _ => by omega
  | n + 1, h, k => by
    simp only [qm_cnt]
    rcases Nat.lt_or_ge c n with z | z
    · rw [qm_cnt_one hp hr z (fun i hi => k i (by omega)), k n (by omega) (by omega)]
      omega
    · have e : c = n := by omega
      subst e
      rw [qm_cnt_congr (fun i hi => k i (by omega) (by omega)), hp, hr]
      simp
/-- messages: kind, sender, receiver, stamp; the channel's number -/
abbrev qm_M : Type := Nat × Nat × Nat × Nat
def qm_mc (m : qm_M) : Nat := m.2.1 * 9 + m.2.2.1
def qm_fl (at_ : Nat → qm_M) (c : Nat) (L : List Nat) : List Nat := L.filter (fun s => qm_mc (at_ s) == c)
theorem qm_fl_app (g : Nat → qm_M) (c : Nat) (A B : List Nat) : qm_fl g c (A ++ B) = qm_fl g c A ++ qm_fl g c B := List.filter_append ..
theorem qm_fl_in {g : Nat → qm_M} {c : Nat} (s : Nat) (h : qm_mc (g s) = c) (B : List Nat) : qm_fl g c (s :: B) = s :: qm_fl g c B := by
  unfold qm_fl
  rw [List.filter_cons, if_pos (by rw [h]; exact beq_self_eq_true c)]
theorem qm_fl_out {g : Nat → qm_M} {c : Nat} (s : Nat) (h : qm_mc (g s) ≠ c) (B : List Nat) : qm_fl g c (s :: B) = qm_fl g c B := by
  unfold qm_fl
  rw [List.filter_cons, if_neg (by simpa using h)]
theorem qm_fl_nil {g : Nat → qm_M} {c : Nat} : qm_fl g c [] = [] := rfl
theorem qm_fl_mem {g : Nat → qm_M} {c : Nat} {L : List Nat} {s : Nat} : s ∈ qm_fl g c L ↔ s ∈ L ∧ qm_mc (g s) = c := by
  unfold qm_fl
  rw [List.mem_filter, beq_iff_eq]
theorem qm_fl_congr {g g' : Nat → qm_M} {c : Nat} {L : List Nat} (h : ∀ s, s ∈ L → g s = g' s) : qm_fl g c L = qm_fl g' c L := by
  unfold qm_fl
  exact List.filter_congr (fun s hs => by rw [h s hs])
theorem qm_fl_any {g : Nat → qm_M} {c : Nat} {L : List Nat} : (qm_fl g c L ≠ []) ↔ ∃ m, m ∈ L.map g ∧ qm_mc m = c := by
  constructor
  · intro h
    obtain ⟨s, hs⟩ := List.exists_mem_of_ne_nil _ h
    have := qm_fl_mem.mp hs
    exact ⟨g s, List.mem_map.mpr ⟨s, this.1, rfl⟩, this.2⟩
  · intro ⟨m, hm, hc⟩ e
    obtain ⟨s, hs, es⟩ := List.mem_map.mp hm
    have : s ∈ qm_fl g c L := qm_fl_mem.mpr ⟨hs, by rw [es]; exact hc⟩
    rw [e] at this
    exact absurd this (by simp)
/-- the channel c is busy in the flight -/
def qm_bs (Q : List qm_M) (c : Nat) : Bool := Q.any (fun m => qm_mc m == c)
theorem qm_bs_iff {Q : List qm_M} {c : Nat} : qm_bs Q c = true ↔ ∃ m, m ∈ Q ∧ qm_mc m = c := by
  unfold qm_bs
  rw [List.any_eq_true]
  constructor
  · intro ⟨m, h, e⟩; exact ⟨m, h, by simpa using e⟩
  · intro ⟨m, h, e⟩; exact ⟨m, h, by simpa using e⟩
theorem qm_bs_fl {g : Nat → qm_M} {c : Nat} {L : List Nat} : qm_bs (L.map g) c = true ↔ qm_fl g c L ≠ [] := by
  rw [qm_bs_iff, qm_fl_any]
theorem qm_bs_app {A B : List qm_M} {c : Nat} : qm_bs (A ++ B) c = (qm_bs A c || qm_bs B c) := by
  unfold qm_bs
  rw [List.any_append]
theorem qm_bs_1 {m : qm_M} {c : Nat} : qm_bs [m] c = decide (qm_mc m = c) := by
  unfold qm_bs
  rw [Bool.eq_iff_iff]
  simp
end
section
/-! the pool of X: the flight L, the free list F, the channels -/
abbrev qm_PT : Type := Int32 × Int32 × Int32 × Int32 × Int32 × (Nat → Int32) × (Nat → Int32) × (Nat → Int32) × (Nat → Int32) × (Nat → Int32) × (Nat → Int32) × (Nat → Int32) × (Nat → Int32) × (Nat → Int32) × (Nat → Int32)
def qm_FL (L : List Nat) (hd tl : Int32) (ns ps : Nat → Int32) : Prop := hd = qm_hd L ∧ tl = qm_hd L.reverse ∧ qm_ch ns L ∧ qm_ch ps L.reverse
def qm_CC (L : List Nat) (g : Nat → qm_M) (nc ch ct cc : Nat → Int32) (c : Nat) : Prop := qm_ch nc (qm_fl g c L) ∧ ch c = qm_hd (qm_fl g c L) ∧ ct c = qm_hd (qm_fl g c L).reverse ∧ cc c = nI (qm_fl g c L).length
def qm_CL (L : List Nat) (g : Nat → qm_M) (bz : Int32) (nc ch ct cc : Nat → Int32) : Prop := (∀ c, c < 81 → qm_CC L g nc ch ct cc c) ∧ bz = nI (qm_cnt (qm_bs (L.map g)) 81)
def qm_AT (g : Nat → qm_M) (sk sf sr ss : Nat → Int32) (s : Nat) : Prop := sk s = nI (g s).1 ∧ sf s = nI (g s).2.1 ∧ sr s = nI (g s).2.2.1 ∧ ss s = nI (g s).2.2.2 ∧ (g s).2.1 < 9 ∧ (g s).2.2.1 < 9
def qm_PL (L F : List Nat) (g : Nat → qm_M) (fh hd tl fc bz : Int32) (sk sf sr ss ns ps nc ch ct cc : Nat → Int32) : Prop :=
  (L ++ F).Nodup ∧ (∀ s, s ∈ L ++ F → s < 200) ∧ L.length + F.length = 200 ∧ fh = qm_hd F ∧ fc = nI L.length ∧ qm_ch ns F ∧
  qm_FL L hd tl ns ps ∧ (∀ s, s ∈ L → qm_AT g sk sf sr ss s) ∧ qm_CL L g bz nc ch ct cc
theorem qm_rv (L : List Nat) (s : Nat) : (L ++ [s]).reverse = s :: L.reverse := by simp
theorem qm_rv2 (A B : List Nat) (s : Nat) : (A ++ s :: B).reverse = B.reverse ++ s :: A.reverse := by simp
theorem qm_hdne {l B : List Nat} (h : l ≠ []) : qm_hd (l ++ B) = qm_hd l := by
  cases l with
  | nil => exact absurd rfl h
  | cons a l => rfl
theorem qm_mc_lt {m : qm_M} (h1 : m.2.1 < 9) (h2 : m.2.2.1 < 9) : qm_mc m < 81 := by
  unfold qm_mc
  omega
theorem qm_CL_congr {L : List Nat} {g g' : Nat → qm_M} {bz : Int32} {nc ch ct cc : Nat → Int32} (e : ∀ s, s ∈ L → g s = g' s) (h : qm_CL L g bz nc ch ct cc) : qm_CL L g' bz nc ch ct cc := by
  refine ⟨fun c hc => ?_, ?_⟩
  · have k := h.1 c hc
    unfold qm_CC at k ⊢
    rw [← qm_fl_congr (c := c) e]
    exact k
  · rw [← List.map_congr_left e]
    exact h.2
section
variable {hd tl bz : Int32} {ns ps nc ch ct cc : Nat → Int32} {L F : List Nat} {g : Nat → qm_M} {s : Nat}
theorem qm_linkF (h : qm_FL L hd tl ns ps) (hs : s < 200) (hn : s ∉ L) (hL : ∀ x, x ∈ L → x < 200) (nd : L.Nodup) :
    ∃ hd' ns' ps', qm_FL (L ++ [s]) hd' (nI s) ns' ps' ∧ (∀ F : List Nat, (∀ x, x ∈ F → x ∉ L ∧ x ≠ s) → qm_ch ns F → qm_ch ns' F) ∧
      ∀ {nn tp wn fh fc bz : Int32} {qb ph st ck hb rb lb en ov hk lk ll lw sk sf sr ss nc ch ct cc : Nat → Int32} {post : SX → Prop}, post (nn, tp, wn, fh, hd', nI s, fc + 1, bz, qb, ph, st, ck, hb, rb, lb, en, ov, hk, lk, ll, lw, sk, sf, sr, ss, ns', ps', nc, ch, ct, cc) → wpX_linkInFlight post (nn, tp, wn, fh, hd, tl, fc, bz, qb, ph, st, ck, hb, rb, lb, en, ov, hk, lk, ll, lw, sk, sf, sr, ss, ns, ps, nc, ch, ct, cc) (nI s) := by
  obtain ⟨e1, e2, c1, c2⟩ := h
  have hc : (nI s).toNatClampNeg = s := nI_clamp (by omega)
  have hi : vp_in (nI s) 200 := vp_in_nI hs (by omega)
  have hp2 : qm_ch (upd ps s tl) (L ++ [s]).reverse := by
    rw [qm_rv]
    exact ⟨by rw [pk_us, e2], qm_ch_un (by simpa using hn) c2⟩
  rcases qm_rcons L with z | ⟨A, t, z⟩
  · subst z
    refine ⟨nI s, upd ns s (-1), upd ps s tl, ⟨rfl, rfl, ⟨pk_us, trivial⟩, hp2⟩, fun F hF c => qm_ch_un (fun m => (hF s m).2 rfl) c, fun hp => ?_⟩
    have hneg : tl < 0 := by rw [e2]; exact qm_m1n
    exact And.intro hi (nm_r (e' := upd ns s (-1)) (by rw [hc]) (And.intro hi (nm_r (e' := upd ps s tl) (by rw [hc]) (br_t hneg (nm_e hp)))))
  · subst z
    have et : tl = nI t := by rw [e2, qm_rv]; rfl
    have ht : t < 200 := hL t (by simp)
    have hts : t ≠ s := fun e => hn (by rw [← e]; simp)
    have hct : (nI t).toNatClampNeg = t := nI_clamp (by omega)
    have htA : t ∉ A := by
      intro m
      have := List.nodup_append.mp nd
      exact this.2.2 t m t (by simp) rfl
    refine ⟨hd, upd (upd ns s (-1)) t (nI s), upd ps s tl, ⟨?_, ?_, ?_, hp2⟩, fun F hF c => qm_ch_un (fun m => (hF t m).1 (by simp)) (qm_ch_un (fun m => (hF s m).2 rfl) c), fun hp => ?_⟩
    · rw [e1]
      have := qm_hdb A t [] [s]
      simpa using this
    · rw [qm_rv]; rfl
    · have := qm_ch_set (nx := upd ns s (-1)) (b := t) (B := [s]) (C := []) (A := A) (qm_ch_un hn c1) htA (by simpa using hts) ⟨pk_us, trivial⟩
      rw [qm_hd1] at this
      simpa using this
    · have hneg : ¬ tl < 0 := by rw [et]; exact nI_pos (by omega)
      have hit : vp_in tl 200 := by rw [et]; exact vp_in_nI ht (by omega)
      exact And.intro hi (nm_r (e' := upd ns s (-1)) (by rw [hc]) (And.intro hi (nm_r (e' := upd ps s tl) (by rw [hc]) (br_f hneg (And.intro hit (nm_r (e' := upd (upd ns s (-1)) t (nI s)) (by rw [et, hct]) (nm_e hp)))))))
theorem qm_linkC (h : qm_CL L g bz nc ch ct cc) (hs : s < 200) (hn : s ∉ L) (hL : ∀ x, x ∈ L → x < 200) (nd : L.Nodup) {c : Nat} (hc : qm_mc (g s) = c) (hc81 : c < 81) :
    ∃ bz' nc' ch', qm_CL (L ++ [s]) g bz' nc' ch' (upd ct c (nI s)) (upd cc c (cc c + 1)) ∧
      ∀ {nn tp wn fh hd tl fc : Int32} {qb ph st ck hb rb lb en ov hk lk ll lw sk sf sr ss ns ps : Nat → Int32} {post : SX → Prop}, post (nn, tp, wn, fh, hd, tl, fc, bz', qb, ph, st, ck, hb, rb, lb, en, ov, hk, lk, ll, lw, sk, sf, sr, ss, ns, ps, nc', ch', upd ct c (nI s), upd cc c (cc c + 1)) → wpX_linkInChannel post (nn, tp, wn, fh, hd, tl, fc, bz, qb, ph, st, ck, hb, rb, lb, en, ov, hk, lk, ll, lw, sk, sf, sr, ss, ns, ps, nc, ch, ct, cc) (nI s) (nI c) := by
  obtain ⟨hC, hb⟩ := h
  have hcs : (nI s).toNatClampNeg = s := nI_clamp (by omega)
  have hcc : (nI c).toNatClampNeg = c := nI_clamp (by omega)
  have hi : vp_in (nI s) 200 := vp_in_nI hs (by omega)
  have hic : vp_in (nI c) 81 := vp_in_nI hc81 (by omega)
  have e1 : qm_fl g c (L ++ [s]) = qm_fl g c L ++ [s] := by rw [qm_fl_app, qm_fl_in s hc]; rfl
  have e2 : ∀ d, d ≠ c → qm_fl g d (L ++ [s]) = qm_fl g d L := fun d hd => by
    rw [qm_fl_app, qm_fl_out s (fun e => hd (by rw [← e, hc]))]
    exact List.append_nil _
  have hsl : ∀ d, s ∉ qm_fl g d L := fun d m => hn (qm_fl_mem.mp m).1
  have k := hC c hc81
  have hl : ∀ x, x ∈ qm_fl g c L → x < 200 := fun x m => hL x (qm_fl_mem.mp m).1
  have tlc : ∀ d, d < 81 → d ≠ c → upd ct c (nI s) d = ct d ∧ upd cc c (cc c + 1) d = cc d := fun d _ hd => ⟨pk_un hd, pk_un hd⟩
  have tcc : upd cc c (cc c + 1) c = nI (qm_fl g c (L ++ [s])).length := by
    rw [pk_us, k.2.2.2, nI_1, e1, List.length_append]; rfl
  have tct : upd ct c (nI s) c = qm_hd (qm_fl g c (L ++ [s])).reverse := by
    rw [pk_us, e1, qm_rv]; rfl
  rcases qm_rcons (qm_fl g c L) with z | ⟨A, t, z⟩
  · have hneg : ct c < 0 := by rw [k.2.2.1, z]; exact qm_m1n
    refine ⟨bz + 1, upd nc s (-1), upd ch c (nI s), ⟨fun d hd => ?_, ?_⟩, fun hp => ?_⟩
    · by_cases e : d = c
      · subst e
        refine ⟨?_, ?_, tct, tcc⟩
        · rw [e1, z]; exact ⟨pk_us, trivial⟩
        · rw [pk_us, e1, z]; rfl
      · have kd := hC d hd
        refine ⟨?_, ?_, ?_, ?_⟩
        · rw [e2 d e]; exact qm_ch_un (hsl d) kd.1
        · rw [e2 d e, pk_un e]; exact kd.2.1
        · rw [e2 d e, pk_un e]; exact kd.2.2.1
        · rw [e2 d e, pk_un e]; exact kd.2.2.2
    · rw [hb, nI_1]
      apply congrArg nI
      refine (qm_cnt_one (c := c) ?_ ?_ hc81 (fun d _ hd => ?_)).symm
      · cases w : qm_bs (L.map g) c with
        | false => rfl
        | true => exact absurd z (qm_bs_fl.mp w)
      · exact qm_bs_fl.mpr (by rw [e1]; simp)
      · rw [List.map_append, qm_bs_app]
        have : qm_bs [g s] d = false := by rw [qm_bs_1]; exact decide_eq_false (fun e => hd (by rw [← e, hc]))
        show _ = (qm_bs (L.map g) d || qm_bs [g s] d)
        rw [this, Bool.or_false]
    · exact And.intro hi (nm_r (e' := upd nc s (-1)) (by rw [hcs]) (And.intro hic (nm_r (e' := ct c) (by rw [hcc]) (br_t hneg (And.intro hic (nm_r (e' := upd ch c (nI s)) (by rw [hcc]) (nm_e (And.intro hic (nm_r (e' := upd ct c (nI s)) (by rw [hcc]) (And.intro hic (And.intro hic (nm_r (e' := upd cc c (cc c + 1)) (by rw [hcc]) hp))))))))))))
  · have et : ct c = nI t := by rw [k.2.2.1, z, qm_rv]; rfl
    have htm : t ∈ qm_fl g c L := by rw [z]; simp
    have ht : t < 200 := hl t htm
    have hts : t ≠ s := fun e => hsl c (by rw [← e]; exact htm)
    have hct : (nI t).toNatClampNeg = t := nI_clamp (by omega)
    have hneg : ¬ ct c < 0 := by rw [et]; exact nI_pos (by omega)
    have hit : vp_in (ct c) 200 := by rw [et]; exact vp_in_nI ht (by omega)
    have ndl : (qm_fl g c L).Nodup := List.Nodup.sublist List.filter_sublist nd
    have htA : t ∉ A := by
      intro m
      rw [z] at ndl
      exact (List.nodup_append.mp ndl).2.2 t m t (by simp) rfl
    refine ⟨bz, upd (upd nc s (-1)) t (nI s), ch, ⟨fun d hd => ?_, ?_⟩, fun hp => ?_⟩
    · by_cases e : d = c
      · subst e
        refine ⟨?_, ?_, tct, tcc⟩
        · rw [e1, z]
          have k1 := k.1
          rw [z] at k1
          have hsA : s ∉ A ++ [t] := by rw [← z]; exact hsl d
          have := qm_ch_set (nx := upd nc s (-1)) (b := t) (B := [s]) (C := []) (A := A) (qm_ch_un hsA k1) htA (by simpa using hts) ⟨pk_us, trivial⟩
          rw [qm_hd1] at this
          simpa using this
        · rw [e1, z, k.2.1, z]
          have := qm_hdb A t [] [s]
          simpa using this
      · have kd := hC d hd
        have htd : t ∉ qm_fl g d L := fun m => e (by rw [← (qm_fl_mem.mp m).2, (qm_fl_mem.mp htm).2])
        refine ⟨?_, ?_, ?_, ?_⟩
        · rw [e2 d e]; exact qm_ch_un htd (qm_ch_un (hsl d) kd.1)
        · rw [e2 d e]; exact kd.2.1
        · rw [e2 d e, pk_un e]; exact kd.2.2.1
        · rw [e2 d e, pk_un e]; exact kd.2.2.2
    · rw [hb]
      apply congrArg nI
      apply qm_cnt_congr
      intro d _
      rw [List.map_append, qm_bs_app]
      show _ = (qm_bs (L.map g) d || qm_bs [g s] d)
      by_cases e : d = c
      · subst e
        have : qm_bs (L.map g) d = true := qm_bs_fl.mpr (by rw [z]; simp)
        rw [this, Bool.true_or]
      · have : qm_bs [g s] d = false := by rw [qm_bs_1]; exact decide_eq_false (fun x => e (by rw [← x, hc]))
        rw [this, Bool.or_false]
    · exact And.intro hi (nm_r (e' := upd nc s (-1)) (by rw [hcs]) (And.intro hic (nm_r (e' := ct c) (by rw [hcc]) (br_f hneg (And.intro hit (nm_r (e' := upd (upd nc s (-1)) t (nI s)) (by rw [et, hct]) (And.intro hic (nm_r (e' := upd ct c (nI s)) (by rw [hcc]) (And.intro hic (And.intro hic (nm_r (e' := upd cc c (cc c + 1)) (by rw [hcc]) hp)))))))))))
end
end
section
/-! X: send and unlinkFront over the pool -/
def qm_PX (Q : List qm_M) (p : qm_PT) : Prop := ∃ (L F : List Nat) (g : Nat → qm_M), qm_PL L F g p.1 p.2.1 p.2.2.1 p.2.2.2.1 p.2.2.2.2.1 p.2.2.2.2.2.1 p.2.2.2.2.2.2.1 p.2.2.2.2.2.2.2.1 p.2.2.2.2.2.2.2.2.1 p.2.2.2.2.2.2.2.2.2.1 p.2.2.2.2.2.2.2.2.2.2.1 p.2.2.2.2.2.2.2.2.2.2.2.1 p.2.2.2.2.2.2.2.2.2.2.2.2.1 p.2.2.2.2.2.2.2.2.2.2.2.2.2.1 p.2.2.2.2.2.2.2.2.2.2.2.2.2.2 ∧ Q = L.map g
def qm_snd (Q : List qm_M) (m : qm_M) : List qm_M := if Q.length < 200 then Q ++ [m] else Q
section
variable {fh hd tl fc bz : Int32} {sk sf sr ss ns ps nc ch ct cc : Nat → Int32}
variable {L F A B : List Nat} {g : Nat → qm_M} {s : Nat}
theorem qm_xsend0 (h : qm_PL L F g fh hd tl fc bz sk sf sr ss ns ps nc ch ct cc) {k f t m : Nat} (hf : f < 9) (ht : t < 9) :
    ∃ p' : qm_PT, qm_PX (qm_snd (L.map g) (k, f, t, m)) p' ∧ ∀ {nn tp wn : Int32} {qb ph st ck hb rb lb en ov hk lk ll lw : Nat → Int32} {post : SX → Prop}, post (nn, tp, wn, p'.1, p'.2.1, p'.2.2.1, p'.2.2.2.1, p'.2.2.2.2.1, qb, ph, st, ck, hb, rb, lb, en, ov, hk, lk, ll, lw, p'.2.2.2.2.2.1, p'.2.2.2.2.2.2.1, p'.2.2.2.2.2.2.2.1, p'.2.2.2.2.2.2.2.2.1, p'.2.2.2.2.2.2.2.2.2.1, p'.2.2.2.2.2.2.2.2.2.2.1, p'.2.2.2.2.2.2.2.2.2.2.2.1, p'.2.2.2.2.2.2.2.2.2.2.2.2.1, p'.2.2.2.2.2.2.2.2.2.2.2.2.2.1, p'.2.2.2.2.2.2.2.2.2.2.2.2.2.2) → wpX_send post (nn, tp, wn, fh, hd, tl, fc, bz, qb, ph, st, ck, hb, rb, lb, en, ov, hk, lk, ll, lw, sk, sf, sr, ss, ns, ps, nc, ch, ct, cc) (nI k) (nI f) (nI t) (nI m) := by
  obtain ⟨nd, hb', hlen, eF, eC, cF, hFL, hAT, hCL⟩ := h
  by_cases full : L.length < 200
  · cases F with
    | nil => simp at hlen; omega
    | cons s F' =>
      have hsn : s ∉ L := fun x => (List.nodup_append.mp nd).2.2 s x s (by simp) rfl
      have hs : s < 200 := hb' s (by simp)
      have hLb : ∀ x, x ∈ L → x < 200 := fun x hx => hb' x (by simp [hx])
      have ndL : L.Nodup := (List.nodup_append.mp nd).1
      have hcs : (nI s).toNatClampNeg = s := nI_clamp (by omega)
      have hi : vp_in (nI s) 200 := vp_in_nI hs (by omega)
      have eF' : fh = nI s := eF
      subst eF'
      let g' : Nat → qm_M := fun x => if x = s then (k, f, t, m) else g x
      have gs : g' s = (k, f, t, m) := if_pos rfl
      have gn : ∀ x, x ∈ L → g x = g' x := fun x hx => (if_neg (fun e => hsn (by rw [← e]; exact hx))).symm
      obtain ⟨hd', ns', ps', hF1, hF2, wF⟩ := qm_linkF hFL hs hsn hLb ndL
      obtain ⟨bz', nc', ch', hC1, wC⟩ := qm_linkC (qm_CL_congr gn hCL) hs hsn hLb ndL (c := f * 9 + t) (by rw [gs]; rfl) (by omega)
      refine ⟨(qm_hd F', hd', nI s, fc + 1, bz', upd sk s (nI k), upd sf s (nI f), upd sr s (nI t), upd ss s (nI m), ns', ps', nc', ch', upd ct (f * 9 + t) (nI s), upd cc (f * 9 + t) (cc (f * 9 + t) + 1)), ⟨L ++ [s], F', g', ⟨by simpa using nd, by simpa using hb', by simp at hlen ⊢; omega, rfl, ?_, hF2 F' ?_ cF.2, hF1, ?_, hC1⟩, ?_⟩, fun hp => ?_⟩
      · show fc + 1 = _
        rw [eC, nI_1, List.length_append]; rfl
      · intro x hx
        have h1 := (List.nodup_append.mp nd).2.2
        have h2 := (List.nodup_append.mp nd).2.1
        refine ⟨fun y => h1 x y x (List.mem_cons_of_mem _ hx) rfl, fun e => ?_⟩
        subst e
        exact (List.nodup_cons.mp h2).1 hx
      · intro x hx
        by_cases e : x = s
        · subst e
          refine ⟨?_, ?_, ?_, ?_, ?_, ?_⟩ <;> rw [gs]
          · exact pk_us
          · exact pk_us
          · exact pk_us
          · exact pk_us
          · exact hf
          · exact ht
        · have hx' : x ∈ L := by simpa [e] using hx
          have k1 := hAT x hx'
          unfold qm_AT at k1 ⊢
          rw [← gn x hx']
          show upd sk s (nI k) x = _ ∧ upd sf s (nI f) x = _ ∧ upd sr s (nI t) x = _ ∧ upd ss s (nI m) x = _ ∧ _
          rw [pk_un e, pk_un e, pk_un e, pk_un e]
          exact k1
      · unfold qm_snd
        rw [if_pos (by simpa using full), List.map_append, List.map_congr_left gn]
        show _ = _ ++ [g' s]
        rw [gs]
      · have n1 : ¬ (200 : Int32) ≤ fc := by rw [eC]; exact nI_ge (b := 200) full (by decide)
        have n2 : (0 : Int32) ≤ nI s := nI_pos' (by omega)
        refine br_f n1 (br_t n2 (And.intro hi (nm_r (e' := qm_hd F') (by rw [hcs]; exact cF.1) (And.intro hi (nm_r (e' := upd sk s (nI k)) (by rw [hcs]) (And.intro hi (nm_r (e' := upd sf s (nI f)) (by rw [hcs]) (And.intro hi (nm_r (e' := upd sr s (nI t)) (by rw [hcs]) (And.intro hi (nm_r (e' := upd ss s (nI m)) (by rw [hcs]) (wF ?_))))))))))))
        rw [qm_idx]
        exact wC hp
  · refine ⟨(fh, hd, tl, fc, bz, sk, sf, sr, ss, ns, ps, nc, ch, ct, cc), ⟨L, F, g, ⟨nd, hb', hlen, eF, eC, cF, hFL, hAT, hCL⟩, ?_⟩, fun hp => ?_⟩
    · unfold qm_snd
      rw [if_neg (by simpa using full)]
    · have n1 : (200 : Int32) ≤ fc := by
        rw [eC]
        exact nI_le (a := 200) (by omega) (by omega)
      exact br_t n1 hp
theorem qm_un101 (nd : (A ++ s :: B).Nodup) (hb' : ∀ x, x ∈ A ++ s :: B → x < 200) (et : tl = qm_hd (A ++ s :: B).reverse) (c2 : qm_ch ps (A ++ s :: B).reverse) :
    ∃ tl' ps', tl' = qm_hd (A ++ B).reverse ∧ qm_ch ps' (A ++ B).reverse ∧
      ∀ {nn tp wn hd fc bz : Int32} {qb ph st ck hb rb lb en ov hk lk ll lw sk sf sr ss ch ct cc : Nat → Int32} {post : SX → Prop}, post (nn, tp, wn, nI s, hd, tl', fc - 1, bz, qb, ph, st, ck, hb, rb, lb, en, ov, hk, lk, ll, lw, sk, sf, sr, ss, upd ns s fh, ps', upd nc s (-1), ch, ct, cc) → wX_unlinkFront_101 post (nI s) (qm_hd A.reverse) (qm_hd B) nn tp wn fh hd tl fc bz qb ph st ck hb rb lb en ov hk lk ll lw sk sf sr ss ns ps nc ch ct cc := by
  have hs : s < 200 := hb' s (by simp)
  have hcs : (nI s).toNatClampNeg = s := nI_clamp (by omega)
  have hi : vp_in (nI s) 200 := vp_in_nI hs (by omega)
  have nd1 := List.nodup_append.mp nd
  have nd2 := List.nodup_cons.mp nd1.2.1
  have hsA : s ∉ A := fun x => nd1.2.2 s x s (by simp) rfl
  have hsAB : s ∉ (A ++ B).reverse := by simp [hsA, nd2.1]
  cases B with
  | nil =>
    have c3 : qm_ch ps (A ++ ([] : List Nat)).reverse := by
      rw [qm_rv] at c2
      rw [List.append_nil]
      exact c2.2
    refine ⟨qm_hd A.reverse, upd ps s (-1), by rw [List.append_nil], qm_ch_un hsAB c3, fun hp => ?_⟩
    exact br_t qm_m1n (nm_e (And.intro hi (nm_r (e' := upd nc s (-1)) (by rw [hcs]) (And.intro hi (nm_r (e' := upd ps s (-1)) (by rw [hcs]) (And.intro hi (nm_r (e' := upd ns s fh) (by rw [hcs]) hp)))))))
  | cons a B' =>
    have ha : a < 200 := hb' a (by simp)
    have hca : (nI a).toNatClampNeg = a := nI_clamp (by omega)
    have hia : vp_in (nI a) 200 := vp_in_nI ha (by omega)
    have haA : a ∉ A := fun x => nd1.2.2 a x a (by simp) rfl
    have haB : a ∉ B' := (List.nodup_cons.mp nd2.2).1
    have e1 : (A ++ s :: a :: B').reverse = B'.reverse ++ a :: (s :: A.reverse) := by simp
    have e2 : (A ++ a :: B').reverse = B'.reverse ++ a :: A.reverse := by simp
    rw [e1] at c2 et
    have c3 : qm_ch ps A.reverse := (qm_ch_suf (A := B'.reverse ++ [a]) (B := s :: A.reverse) (by simpa using c2)).2
    have c4 := qm_ch_set (A := B'.reverse) (b := a) (B := A.reverse) c2 (by simpa using haB) (by simpa using haA) c3
    refine ⟨tl, upd (upd ps a (qm_hd A.reverse)) s (-1), ?_, ?_, fun hp => ?_⟩
    · rw [e2, et]; exact qm_hda ..
    · rw [e2] at hsAB ⊢
      exact qm_ch_un hsAB c4
    · have np : ¬ qm_hd (a :: B') < 0 := nI_pos (n := a) (by omega)
      exact br_f np (And.intro hia (nm_r (e' := upd ps a (qm_hd A.reverse)) (by rw [show qm_hd (a :: B') = nI a from rfl, hca]) (nm_e (And.intro hi (nm_r (e' := upd nc s (-1)) (by rw [hcs]) (And.intro hi (nm_r (e' := upd (upd ps a (qm_hd A.reverse)) s (-1)) (by rw [hcs]) (And.intro hi (nm_r (e' := upd ns s fh) (by rw [hcs]) hp)))))))))
theorem qm_un62 (nd : (A ++ s :: B).Nodup) (hb' : ∀ x, x ∈ A ++ s :: B → x < 200) (h : qm_FL (A ++ s :: B) hd tl ns ps) :
    ∃ hd' tl' ns' ps', qm_FL (A ++ B) hd' tl' ns' ps' ∧ (∀ F : List Nat, (∀ x, x ∈ F → x ∉ A ++ s :: B) → qm_ch ns F → fh = qm_hd F → qm_ch ns' (s :: F)) ∧
      ∀ {nn tp wn fc bz : Int32} {qb ph st ck hb rb lb en ov hk lk ll lw sk sf sr ss ch ct cc : Nat → Int32} {post : SX → Prop}, post (nn, tp, wn, nI s, hd', tl', fc - 1, bz, qb, ph, st, ck, hb, rb, lb, en, ov, hk, lk, ll, lw, sk, sf, sr, ss, ns', ps', upd nc s (-1), ch, ct, cc) → wX_unlinkFront_62 post (nI s) nn tp wn fh hd tl fc bz qb ph st ck hb rb lb en ov hk lk ll lw sk sf sr ss ns ps nc ch ct cc := by
  obtain ⟨e1, e2, c1, c2⟩ := h
  have hs : s < 200 := hb' s (by simp)
  have hcs : (nI s).toNatClampNeg = s := nI_clamp (by omega)
  have hi : vp_in (nI s) 200 := vp_in_nI hs (by omega)
  have nd1 := List.nodup_append.mp nd
  have nd2 := List.nodup_cons.mp nd1.2.1
  have hsA : s ∉ A := fun x => nd1.2.2 s x s (by simp) rfl
  have hsAB : s ∉ A ++ B := by simp [hsA, nd2.1]
  have pv : ps (nI s).toNatClampNeg = qm_hd A.reverse := by
    rw [hcs]
    rw [qm_rv2] at c2
    exact qm_ch_at c2
  have nv : ns (nI s).toNatClampNeg = qm_hd B := by
    rw [hcs]
    exact qm_ch_at c1
  rcases qm_rcons A with z | ⟨A', b, z⟩
  · subst z
    obtain ⟨tl', ps', t1, t2, w⟩ := qm_un101 (fh := fh) (ns := ns) (nc := nc) nd hb' e2 c2
    refine ⟨qm_hd B, tl', upd ns s fh, ps', ⟨rfl, t1, qm_ch_un hsAB c1.2, t2⟩, fun F hF c e => ⟨by rw [pk_us, e], qm_ch_un (fun m => hF s m (by simp)) c⟩, fun hp => ?_⟩
    exact And.intro hi (nm_r (e' := qm_hd ([] : List Nat).reverse) pv (And.intro hi (nm_r (e' := qm_hd B) nv (br_t qm_m1n (w hp)))))
  · subst z
    have hbb : b < 200 := hb' b (by simp)
    have hcb : (nI b).toNatClampNeg = b := nI_clamp (by omega)
    have hib : vp_in (nI b) 200 := vp_in_nI hbb (by omega)
    have nd3 := List.nodup_append.mp nd1.1
    have hbA : b ∉ A' := fun x => nd3.2.2 b x b (by simp) rfl
    have hbB : b ∉ B := fun x => nd1.2.2 b (by simp) b (by simp [x]) rfl
    have cc1 : qm_ch ns B := (qm_ch_suf c1).2
    have c4 := qm_ch_set (A := A') (b := b) (C := s :: B) (B := B) (by simpa using c1) hbA hbB cc1
    obtain ⟨tl', ps', t1, t2, w⟩ := qm_un101 (fh := fh) (ns := upd ns b (qm_hd B)) (nc := nc) nd hb' e2 c2
    refine ⟨hd, tl', upd (upd ns b (qm_hd B)) s fh, ps', ⟨?_, t1, ?_, t2⟩, fun F hF c e => ⟨by rw [pk_us, e], qm_ch_un (fun m => hF s m (by simp)) (qm_ch_un (fun m => hF b m (by simp)) c)⟩, fun hp => ?_⟩
    · rw [e1]; exact qm_hdb ..
    · exact qm_ch_un hsAB (by simpa using c4)
    · have e5 : qm_hd (A' ++ [b]).reverse = nI b := by rw [qm_rv]; rfl
      rw [e5] at pv w
      exact And.intro hi (nm_r (e' := nI b) pv (And.intro hi (nm_r (e' := qm_hd B) nv (br_f (nI_pos (n := b) (by omega)) (And.intro hib (nm_r (e' := upd ns b (qm_hd B)) (by rw [hcb]) (w hp)))))))
theorem qm_xunlink (h : qm_PL (A ++ s :: B) F g fh hd tl fc bz sk sf sr ss ns ps nc ch ct cc) (hfr : qm_fl g (qm_mc (g s)) A = []) :
    ∃ p' : qm_PT, qm_PX ((A ++ B).map g) p' ∧ ∀ {nn tp wn : Int32} {qb ph st ck hb rb lb en ov hk lk ll lw : Nat → Int32} {post : SX → Prop}, post (nn, tp, wn, p'.1, p'.2.1, p'.2.2.1, p'.2.2.2.1, p'.2.2.2.2.1, qb, ph, st, ck, hb, rb, lb, en, ov, hk, lk, ll, lw, p'.2.2.2.2.2.1, p'.2.2.2.2.2.2.1, p'.2.2.2.2.2.2.2.1, p'.2.2.2.2.2.2.2.2.1, p'.2.2.2.2.2.2.2.2.2.1, p'.2.2.2.2.2.2.2.2.2.2.1, p'.2.2.2.2.2.2.2.2.2.2.2.1, p'.2.2.2.2.2.2.2.2.2.2.2.2.1, p'.2.2.2.2.2.2.2.2.2.2.2.2.2.1, p'.2.2.2.2.2.2.2.2.2.2.2.2.2.2) → wpX_unlinkFront post (nn, tp, wn, fh, hd, tl, fc, bz, qb, ph, st, ck, hb, rb, lb, en, ov, hk, lk, ll, lw, sk, sf, sr, ss, ns, ps, nc, ch, ct, cc) (nI s) := by
  obtain ⟨nd, hb', hlen, eF, eC, cF, hFL, hAT, hCL⟩ := h
  have hbL : ∀ x, x ∈ A ++ s :: B → x < 200 := fun x hx => hb' x (List.mem_append_left _ hx)
  have ndL := (List.nodup_append.mp nd).1
  have hs : s < 200 := hbL s (by simp)
  have hcs : (nI s).toNatClampNeg = s := nI_clamp (by omega)
  have hi : vp_in (nI s) 200 := vp_in_nI hs (by omega)
  have hat := hAT s (by simp)
  let c := qm_mc (g s)
  have hc81 : c < 81 := qm_mc_lt hat.2.2.2.2.1 hat.2.2.2.2.2
  have hcc : (nI c).toNatClampNeg = c := nI_clamp (by omega)
  have hic : vp_in (nI c) 81 := vp_in_nI hc81 (by omega)
  have ec : sf (nI s).toNatClampNeg * 9 + sr (nI s).toNatClampNeg = nI c := by
    rw [hcs, hat.2.1, hat.2.2.1, qm_idx]; rfl
  have nd1 := List.nodup_append.mp ndL
  have nd2 := List.nodup_cons.mp nd1.2.1
  have hsA : s ∉ A := fun x => nd1.2.2 s x s (by simp) rfl
  have el : qm_fl g c (A ++ s :: B) = s :: qm_fl g c B := by
    rw [qm_fl_app, qm_fl_in s rfl, show qm_fl g c A = [] from hfr]; rfl
  have er : qm_fl g c (A ++ B) = qm_fl g c B := by
    rw [qm_fl_app, show qm_fl g c A = [] from hfr]; rfl
  have eo : ∀ d, d ≠ c → qm_fl g d (A ++ s :: B) = qm_fl g d (A ++ B) := fun d hd => by
    rw [qm_fl_app, qm_fl_app, qm_fl_out s (fun e => hd e.symm)]
  have hsn : ∀ d, s ∉ qm_fl g d (A ++ B) := fun d m => by
    have := (qm_fl_mem.mp m).1
    simp [hsA, nd2.1] at this
  obtain ⟨hC, hbz⟩ := hCL
  have k := hC c hc81
  unfold qm_CC at k
  rw [el] at k
  have nv : nc (nI s).toNatClampNeg = qm_hd (qm_fl g c B) := by rw [hcs]; exact k.1.1
  have kc : cc c - 1 = nI (qm_fl g c B).length := by
    rw [k.2.2.2]
    exact nI_pred _
  have oth : ∀ (ct' : Nat → Int32), (∀ d, d ≠ c → ct' d = ct d) → ∀ d, d < 81 → d ≠ c → qm_CC (A ++ B) g (upd nc s (-1)) (upd ch c (qm_hd (qm_fl g c B))) ct' (upd cc c (cc c - 1)) d := by
    intro ct' hct d hd e
    have kd := hC d hd
    unfold qm_CC at kd
    rw [eo d e] at kd
    refine ⟨qm_ch_un (hsn d) kd.1, ?_, ?_, ?_⟩
    · rw [pk_un e]; exact kd.2.1
    · rw [hct d e]; exact kd.2.2.1
    · rw [pk_un e]; exact kd.2.2.2
  obtain ⟨hd', tl', ns', ps', f1, f2, w⟩ := qm_un62 (fh := fh) (nc := nc) ndL hbL hFL
  have hFs : ∀ x, x ∈ F → x ∉ A ++ s :: B := fun x hx y => (List.nodup_append.mp nd).2.2 x y x hx rfl
  have ndn : ((A ++ B) ++ s :: F).Nodup := by
    refine (List.Perm.nodup_iff ?_).mp nd
    simp only [List.append_assoc, List.cons_append]
    refine List.Perm.append_left A ?_
    exact (List.perm_middle (a := s) (l₁ := B) (l₂ := F)).symm
  have hbn : ∀ x, x ∈ (A ++ B) ++ s :: F → x < 200 := by
    intro x hx
    apply hb' x
    simp at hx ⊢
    rcases hx with h | h | h | h
    · exact Or.inl h
    · exact Or.inr (Or.inr (Or.inl h))
    · exact Or.inr (Or.inl h)
    · exact Or.inr (Or.inr (Or.inr h))
  have hln : (A ++ B).length + (s :: F).length = 200 := by simp at hlen ⊢; omega
  have efc : fc - 1 = nI (A ++ B).length := by
    rw [eC, show (A ++ s :: B).length = (A ++ B).length + 1 from by simp; omega]
    exact nI_pred _
  have hATn : ∀ x, x ∈ A ++ B → qm_AT g sk sf sr ss x := fun x hx => hAT x (by simp at hx ⊢; rcases hx with h | h <;> simp [h])
  by_cases z : qm_fl g c B = []
  · refine ⟨(nI s, hd', tl', fc - 1, bz - 1, sk, sf, sr, ss, ns', ps', upd nc s (-1), upd ch c (qm_hd (qm_fl g c B)), upd ct c (-1), upd cc c (cc c - 1)), ⟨A ++ B, s :: F, g, ⟨ndn, hbn, hln, rfl, efc, f2 F hFs cF eF, f1, hATn, ⟨fun d hd => ?_, ?_⟩⟩, rfl⟩, fun hp => ?_⟩
    · by_cases e : d = c
      · subst e
        refine ⟨?_, ?_, ?_, ?_⟩
        · rw [er, z]; trivial
        · rw [er]; exact pk_us
        · rw [er, z]; exact pk_us
        · rw [er]; exact pk_us.trans kc
      · exact oth _ (fun d h => pk_un h) d hd e
    · show bz - 1 = _
      rw [hbz]
      have e1 : qm_cnt (qm_bs ((A ++ s :: B).map g)) 81 = qm_cnt (qm_bs ((A ++ B).map g)) 81 + 1 := by
        refine qm_cnt_one (c := c) ?_ ?_ hc81 (fun d _ hd => ?_)
        · cases w : qm_bs ((A ++ B).map g) c with
          | false => rfl
          | true => exact absurd (er.trans z) (qm_bs_fl.mp w)
        · exact qm_bs_fl.mpr (by rw [el]; simp)
        · rw [Bool.eq_iff_iff, qm_bs_fl, qm_bs_fl, eo d hd]
      rw [e1]
      exact nI_pred _
    · have n0 : ¬ (0 : Int32) ≤ qm_hd (qm_fl g c B) := by rw [z]; exact qm_m1m
      exact And.intro hi (And.intro hi (nm_r (e' := nI c) ec (And.intro hi (nm_r (e' := qm_hd (qm_fl g c B)) nv (And.intro hic (nm_r (e' := upd ch c (qm_hd (qm_fl g c B))) (by rw [hcc]) (And.intro hic (And.intro hic (nm_r (e' := upd cc c (cc c - 1)) (by rw [hcc]) (br_f n0 (And.intro hic (nm_r (e' := upd ct c (-1)) (by rw [hcc]) (nm_e (w hp))))))))))))))
  · refine ⟨(nI s, hd', tl', fc - 1, bz, sk, sf, sr, ss, ns', ps', upd nc s (-1), upd ch c (qm_hd (qm_fl g c B)), ct, upd cc c (cc c - 1)), ⟨A ++ B, s :: F, g, ⟨ndn, hbn, hln, rfl, efc, f2 F hFs cF eF, f1, hATn, ⟨fun d hd => ?_, ?_⟩⟩, rfl⟩, fun hp => ?_⟩
    · by_cases e : d = c
      · subst e
        refine ⟨?_, ?_, ?_, ?_⟩
        · have := hsn c
          rw [er] at this ⊢
          exact qm_ch_un this k.1.2
        · rw [er]; exact pk_us
        · show ct c = _
          rw [er, k.2.2.1, List.reverse_cons]
          exact qm_hdne (by simpa using z)
        · rw [er]; exact pk_us.trans kc
      · exact oth _ (fun d _ => rfl) d hd e
    · show bz = _
      rw [hbz]
      apply congrArg nI
      apply qm_cnt_congr
      intro d _
      rw [Bool.eq_iff_iff, qm_bs_fl, qm_bs_fl]
      by_cases e : d = c
      · subst e
        rw [el, er]
        simp [z]
      · rw [eo d e]
    · have n0 : (0 : Int32) ≤ qm_hd (qm_fl g c B) := by
        cases w : qm_fl g c B with
        | nil => exact absurd w z
        | cons x l =>
          have : x ∈ A ++ s :: B := by
            have : x ∈ qm_fl g c B := by rw [w]; simp
            have := (qm_fl_mem.mp this).1
            simp [this]
          exact nI_pos' (by have := hbL x this; omega)
      exact And.intro hi (And.intro hi (nm_r (e' := nI c) ec (And.intro hi (nm_r (e' := qm_hd (qm_fl g c B)) nv (And.intro hic (nm_r (e' := upd ch c (qm_hd (qm_fl g c B))) (by rw [hcc]) (And.intro hic (And.intro hic (nm_r (e' := upd cc c (cc c - 1)) (by rw [hcc]) (br_t n0 (w hp)))))))))))
end
theorem qm_xsend {p : qm_PT} {Q : List qm_M} (h : qm_PX Q p) {k f t m : Nat} (hf : f < 9) (ht : t < 9) :
    ∃ p' : qm_PT, qm_PX (qm_snd Q (k, f, t, m)) p' ∧ ∀ {nn tp wn : Int32} {qb ph st ck hb rb lb en ov hk lk ll lw : Nat → Int32} {post : SX → Prop}, post (nn, tp, wn, p'.1, p'.2.1, p'.2.2.1, p'.2.2.2.1, p'.2.2.2.2.1, qb, ph, st, ck, hb, rb, lb, en, ov, hk, lk, ll, lw, p'.2.2.2.2.2.1, p'.2.2.2.2.2.2.1, p'.2.2.2.2.2.2.2.1, p'.2.2.2.2.2.2.2.2.1, p'.2.2.2.2.2.2.2.2.2.1, p'.2.2.2.2.2.2.2.2.2.2.1, p'.2.2.2.2.2.2.2.2.2.2.2.1, p'.2.2.2.2.2.2.2.2.2.2.2.2.1, p'.2.2.2.2.2.2.2.2.2.2.2.2.2.1, p'.2.2.2.2.2.2.2.2.2.2.2.2.2.2) → wpX_send post (nn, tp, wn, p.1, p.2.1, p.2.2.1, p.2.2.2.1, p.2.2.2.2.1, qb, ph, st, ck, hb, rb, lb, en, ov, hk, lk, ll, lw, p.2.2.2.2.2.1, p.2.2.2.2.2.2.1, p.2.2.2.2.2.2.2.1, p.2.2.2.2.2.2.2.2.1, p.2.2.2.2.2.2.2.2.2.1, p.2.2.2.2.2.2.2.2.2.2.1, p.2.2.2.2.2.2.2.2.2.2.2.1, p.2.2.2.2.2.2.2.2.2.2.2.2.1, p.2.2.2.2.2.2.2.2.2.2.2.2.2.1, p.2.2.2.2.2.2.2.2.2.2.2.2.2.2) (nI k) (nI f) (nI t) (nI m) := by
  obtain ⟨L, F, g, hP, e⟩ := h
  subst e
  exact qm_xsend0 hP hf ht
end
section
/-! Y: the flight as arrays; send, front, removal -/
abbrev qm_YT : Type := Int32 × (Nat → Int32) × (Nat → Int32) × (Nat → Int32) × (Nat → Int32)
def qm_A1 (m : qm_M) (kd sn rc sm : Nat → Int32) (i : Nat) : Prop := kd i = nI m.1 ∧ sn i = nI m.2.1 ∧ rc i = nI m.2.2.1 ∧ sm i = nI m.2.2.2
def qm_QA (Q : List qm_M) (kd sn rc sm : Nat → Int32) : Prop := ∀ i m, Q[i]? = some m → qm_A1 m kd sn rc sm i
def qm_PY (Q : List qm_M) (y : qm_YT) : Prop := Q.length ≤ 200 ∧ y.1 = nI Q.length ∧ qm_QA Q y.2.1 y.2.2.1 y.2.2.2.1 y.2.2.2.2
def qm_V9 (Q : List qm_M) : Prop := ∀ m, m ∈ Q → m.2.1 < 9 ∧ m.2.2.1 < 9
theorem qm_get {α : Type} (A : List α) (m : α) (B : List α) : (A ++ m :: B)[A.length]? = some m := by simp
theorem qm_snd_len {Q : List qm_M} {m : qm_M} (h : Q.length ≤ 200) : (qm_snd Q m).length ≤ 200 := by
  unfold qm_snd
  split
  · simp; omega
  · exact h
section
variable {fc : Int32} {kd sn rc sm : Nat → Int32}
variable {Q R : List qm_M}
theorem qm_ysend0 (hl : Q.length ≤ 200) (e : fc = nI Q.length) (h : qm_QA Q kd sn rc sm) (k f t m : Nat) :
    ∃ y' : qm_YT, qm_PY (qm_snd Q (k, f, t, m)) y' ∧ ∀ {co nn tp : Int32} {ph st ck en ov sd lo ls wt re : Nat → Int32} {post : SY → Prop}, post (co, nn, tp, y'.1, ph, st, ck, en, ov, sd, lo, ls, wt, y'.2.1, y'.2.2.1, y'.2.2.2.1, y'.2.2.2.2, re) → wpY_send post (co, nn, tp, fc, ph, st, ck, en, ov, sd, lo, ls, wt, kd, sn, rc, sm, re) (nI k) (nI f) (nI t) (nI m) := by
  by_cases full : Q.length < 200
  · have hi : vp_in fc 200 := by rw [e]; exact vp_in_nI full (by decide)
    have hc : fc.toNatClampNeg = Q.length := by rw [e]; exact nI_clamp (by omega)
    have ht : fc < 200 := by rw [e]; exact nI_lt (b := 200) full (by decide)
    refine ⟨(nI (Q.length + 1), upd kd Q.length (nI k), upd sn Q.length (nI f), upd rc Q.length (nI t), upd sm Q.length (nI m)), ⟨qm_snd_len hl, ?_, ?_⟩, fun hp => ?_⟩
    · unfold qm_snd
      rw [if_pos full]; simp
    · intro i m' hm
      unfold qm_snd at hm
      rw [if_pos full] at hm
      by_cases e1 : i < Q.length
      · rw [List.getElem?_append_left e1] at hm
        have k1 := h i m' hm
        have ne : i ≠ Q.length := by omega
        unfold qm_A1 at k1 ⊢
        show upd kd Q.length (nI k) i = _ ∧ upd sn Q.length (nI f) i = _ ∧ upd rc Q.length (nI t) i = _ ∧ upd sm Q.length (nI m) i = _
        rw [pk_un ne, pk_un ne, pk_un ne, pk_un ne]
        exact k1
      · rw [List.getElem?_append_right (by omega)] at hm
        have e2 : i - Q.length = 0 := by
          rcases Nat.eq_zero_or_pos (i - Q.length) with z | z
          · exact z
          · rw [List.getElem?_eq_none (by simp; omega)] at hm
            exact absurd hm (by simp)
        have e3 : i = Q.length := by omega
        rw [e2] at hm
        have e4 : (k, f, t, m) = m' := by simpa using hm
        subst e4
        subst e3
        exact ⟨pk_us, pk_us, pk_us, pk_us⟩
    · exact br_t ht (And.intro hi (nm_r (e' := upd kd Q.length (nI k)) (by rw [hc]) (And.intro hi (nm_r (e' := upd sn Q.length (nI f)) (by rw [hc]) (And.intro hi (nm_r (e' := upd rc Q.length (nI t)) (by rw [hc]) (And.intro hi (nm_r (e' := upd sm Q.length (nI m)) (by rw [hc]) (nm_r (e' := nI (Q.length + 1)) (by rw [e, nI_1]) hp)))))))))
  · have ht : ¬ fc < 200 := by rw [e]; exact nI_nlt (b := 200) (by omega) (by omega)
    refine ⟨(fc, kd, sn, rc, sm), ⟨qm_snd_len hl, ?_, ?_⟩, fun hp => br_f ht hp⟩
    · unfold qm_snd; rw [if_neg full]; exact e
    · unfold qm_snd; rw [if_neg full]; exact h
/-- what front answers: the first place of the channel, or -1 -/
def qm_fst (Q : List qm_M) (c : Nat) (r : Int32) : Prop := (r = -1 ∧ ∀ m, m ∈ Q → qm_mc m ≠ c) ∨ ∃ A m B, Q = A ++ m :: B ∧ r = nI A.length ∧ qm_mc m = c ∧ ∀ x, x ∈ A → qm_mc x ≠ c
theorem qm_mc_inj {a b f t : Nat} (hb : b < 9) (ht : t < 9) (h : a * 9 + b = f * 9 + t) : a = f ∧ b = t := by omega
theorem qm_front1 {f t : Nat} (hf : f < 9) (ht : t < 9) (hQ : qm_QA Q kd sn rc sm) (hV : qm_V9 Q) (hl : Q.length ≤ 200) (e : fc = nI Q.length) :
    ∀ (B A : List qm_M), Q = A ++ B → (∀ x, x ∈ A → qm_mc x ≠ f * 9 + t) → ∃ r, qm_fst Q (f * 9 + t) r ∧ ∀ {co nn tp : Int32} {ph st ck en ov sd lo ls wt re : Nat → Int32} {post : Int32 → Prop}, post r → wY_front_2 post (nI f) (nI t) co nn tp fc ph st ck en ov sd lo ls wt kd sn rc sm re (B.length + 1) (nI A.length)
  | [], A, eq, hA => by
    have hz : Q = A := by rw [eq, List.append_nil]
    refine ⟨-1, Or.inl ⟨rfl, by rw [hz]; exact hA⟩, fun hp => br_t ?_ hp⟩
    rw [e, hz]
    exact nI_le (Nat.le_refl _) (by rw [← hz]; omega)
  | m :: B, A, eq, hA => by
    have hlen : A.length < Q.length := by rw [eq]; simp
    have hi : vp_in (nI A.length) 200 := vp_in_nI (by omega) (by decide)
    have hc : (nI A.length).toNatClampNeg = A.length := nI_clamp (by omega)
    have hn : ¬ fc ≤ nI A.length := by rw [e]; exact nI_ge hlen (by omega)
    have at_ := hQ A.length m (by rw [eq]; exact qm_get A m B)
    have v9 := hV m (by rw [eq]; simp)
    have s1 : sn (nI A.length).toNatClampNeg = nI m.2.1 := by rw [hc]; exact at_.2.1
    have s2 : rc (nI A.length).toNatClampNeg = nI m.2.2.1 := by rw [hc]; exact at_.2.2.1
    by_cases hm : qm_mc m = f * 9 + t
    · have k := qm_mc_inj v9.2 ht hm
      refine ⟨nI A.length, Or.inr ⟨A, m, B, eq, rfl, hm, hA⟩, fun hp => ?_⟩
      exact br_f hn (And.intro hi (br_t (by rw [s1, k.1]) (And.intro hi (br_t (by rw [s2, k.2]) hp))))
    · obtain ⟨r, hr, w⟩ := qm_front1 hf ht hQ hV hl e B (A ++ [m]) (by rw [eq]; simp) (by
        intro x hx
        rcases List.mem_append.mp hx with h | h
        · exact hA x h
        · rw [List.mem_singleton.mp h]; exact hm)
      rw [List.length_append] at w
      refine ⟨r, hr, fun hp => ?_⟩
      by_cases h1 : m.2.1 = f
      · have h2 : m.2.2.1 ≠ t := fun h => hm (by unfold qm_mc; rw [h1, h])
        refine br_f hn (And.intro hi (br_t (by rw [s1, h1]) (And.intro hi (br_f ?_ (nm_r (nI_1 _) (w hp))))))
        rw [s2, nI_eq (by omega) (by omega)]
        exact h2
      · refine br_f hn (And.intro hi (br_f ?_ (nm_r (nI_1 _) (w hp))))
        rw [s1, nI_eq (by omega) (by omega)]
        exact h1
theorem qm_front0 {f t : Nat} (hf : f < 9) (ht : t < 9) (hQ : qm_QA Q kd sn rc sm) (hV : qm_V9 Q) (hl : Q.length ≤ 200) (e : fc = nI Q.length) :
    ∃ r, qm_fst Q (f * 9 + t) r ∧ ∀ {co nn tp : Int32} {ph st ck en ov sd lo ls wt re : Nat → Int32} {post : Int32 → Prop}, post r → wpY_front post (co, nn, tp, fc, ph, st, ck, en, ov, sd, lo, ls, wt, kd, sn, rc, sm, re) (nI f) (nI t) := by
  obtain ⟨r, hr, w⟩ := qm_front1 hf ht hQ hV hl e Q [] rfl (by simp)
  exact ⟨r, hr, fun hp => ⟨_, w hp⟩⟩
/-- the shift of deliverAt: Q loses its place b and becomes R -/
theorem qm_shift1 {x2 x3 x4 x5 : Int32} {ck ck' : Nat → Int32} {b : Nat} (hx4 : vp_in x4 9) (hck : (x5 ≤ ck x4.toNatClampNeg ∧ ck' = ck) ∨ (¬ x5 ≤ ck x4.toNatClampNeg ∧ ck' = upd ck x4.toNatClampNeg x5))
    (hl : Q.length ≤ 200) (e : fc = nI Q.length) (hR : R.length + 1 = Q.length) (hRl : ∀ i, i < b → R[i]? = Q[i]?) (hRr : ∀ i, b ≤ i → R[i]? = Q[i + 1]?) :
    ∀ (d i : Nat) (kd sn rc sm : Nat → Int32), i + 1 + d = Q.length → b ≤ i → (∀ j m, j < i → R[j]? = some m → qm_A1 m kd sn rc sm j) → (∀ j m, i + 1 ≤ j → Q[j]? = some m → qm_A1 m kd sn rc sm j) →
      ∃ kd' sn' rc' sm', qm_QA R kd' sn' rc' sm' ∧ ∀ {co nn tp : Int32} {ph st en ov sd lo ls wt re : Nat → Int32} {post : Int32 → SY → Prop}, wY_deliverAt_160 post x2 x3 x4 x5 co nn tp (nI R.length) ph st ck' en ov sd lo ls wt kd' sn' rc' sm' re → wY_deliverAt_50 post x2 x3 x4 x5 co nn tp fc (d + 1) (nI (i + 1)) ph st ck en ov sd lo ls wt kd sn rc sm re
  | 0, i, kd, sn, rc, sm, hd, hb, h1, h2 => by
    refine ⟨kd, sn, rc, sm, fun j m hm => h1 j m ?_ hm, fun hp => ?_⟩
    · have : j < R.length := by
        rcases Nat.lt_or_ge j R.length with z | z
        · exact z
        · rw [List.getElem?_eq_none z] at hm
          exact absurd hm (by simp)
      omega
    · have ht : fc ≤ nI (i + 1) := by rw [e]; exact nI_le (by omega) (by omega)
      have ef : fc - 1 = nI R.length := by rw [e, ← hR]; exact nI_pred _
      refine br_t ht (nm_r ef (And.intro hx4 ?_))
      rcases hck with ⟨a, z⟩ | ⟨a, z⟩
      · subst z; exact br_t a hp
      · subst z; exact br_f a (And.intro hx4 (nm_e hp))
  | d + 1, i, kd, sn, rc, sm, hd, hb, h1, h2 => by
    have hn : ¬ fc ≤ nI (i + 1) := by rw [e]; exact nI_ge (by omega) (by omega)
    have hi : vp_in (nI (i + 1)) 200 := vp_in_nI (by omega) (by decide)
    have hc : (nI (i + 1)).toNatClampNeg = i + 1 := nI_clamp (by omega)
    have hp : nI (i + 1) - 1 = nI i := nI_pred i
    have hj : vp_in (nI (i + 1) - 1) 200 := by rw [hp]; exact vp_in_nI (by omega) (by decide)
    have hcj : (nI (i + 1) - 1).toNatClampNeg = i := by rw [hp]; exact nI_clamp (by omega)
    obtain ⟨mi, hmi⟩ : ∃ mi, Q[i + 1]? = some mi := ⟨_, List.getElem?_eq_getElem (by omega)⟩
    have a1 := h2 (i + 1) mi (Nat.le_refl _) hmi
    obtain ⟨kd', sn', rc', sm', q1, w⟩ := qm_shift1 hx4 hck hl e hR hRl hRr d (i + 1) (upd kd i (kd (i + 1))) (upd sn i (sn (i + 1))) (upd rc i (rc (i + 1))) (upd sm i (sm (i + 1))) (by omega) (by omega)
      (by
        intro j m hj1 hm
        by_cases ej : j = i
        · subst ej
          rw [hRr j hb, hmi] at hm
          have : mi = m := by simpa using hm
          subst this
          unfold qm_A1 at a1 ⊢
          rw [pk_us, pk_us, pk_us, pk_us]
          exact a1
        · have k1 := h1 j m (by omega) hm
          unfold qm_A1 at k1 ⊢
          rw [pk_un ej, pk_un ej, pk_un ej, pk_un ej]
          exact k1)
      (by
        intro j m hj1 hm
        have k1 := h2 j m (by omega) hm
        have ej : j ≠ i := by omega
        unfold qm_A1 at k1 ⊢
        rw [pk_un ej, pk_un ej, pk_un ej, pk_un ej]
        exact k1)
    refine ⟨kd', sn', rc', sm', q1, fun hp' => ?_⟩
    refine br_f hn (And.intro hi (And.intro hj (nm_r (e' := upd kd i (kd (i + 1))) (by rw [hcj, hc]) (And.intro hi (And.intro hj (nm_r (e' := upd sn i (sn (i + 1))) (by rw [hcj, hc]) (And.intro hi (And.intro hj (nm_r (e' := upd rc i (rc (i + 1))) (by rw [hcj, hc]) (And.intro hi (And.intro hj (nm_r (e' := upd sm i (sm (i + 1))) (by rw [hcj, hc]) (nm_r (nI_1 _) ?_)))))))))))))
    exact w hp'
theorem qm_ydel0 {A B : List qm_M} {m : qm_M} {ck ck' : Nat → Int32} (hQ : qm_QA (A ++ m :: B) kd sn rc sm) (hl : (A ++ m :: B).length ≤ 200) (e : fc = nI (A ++ m :: B).length) (ht : m.2.2.1 < 9) (hck : (nI m.2.2.2 ≤ ck m.2.2.1 ∧ ck' = ck) ∨ (¬ nI m.2.2.2 ≤ ck m.2.2.1 ∧ ck' = upd ck m.2.2.1 (nI m.2.2.2))) :
    ∃ y' : qm_YT, qm_PY (A ++ B) y' ∧ ∀ {co nn tp : Int32} {ph st en ov sd lo ls wt re : Nat → Int32} {post : Int32 → SY → Prop}, wY_deliverAt_160 post (nI m.1) (nI m.2.1) (nI m.2.2.1) (nI m.2.2.2) co nn tp y'.1 ph st ck' en ov sd lo ls wt y'.2.1 y'.2.2.1 y'.2.2.2.1 y'.2.2.2.2 re → wpY_deliverAt post (co, nn, tp, fc, ph, st, ck, en, ov, sd, lo, ls, wt, kd, sn, rc, sm, re) (nI A.length) := by
  have hlen : A.length < (A ++ m :: B).length := by simp
  have hi : vp_in (nI A.length) 200 := vp_in_nI (by omega) (by decide)
  have hc : (nI A.length).toNatClampNeg = A.length := nI_clamp (by omega)
  have at_ := hQ A.length m (qm_get A m B)
  have hct : (nI m.2.2.1).toNatClampNeg = m.2.2.1 := nI_clamp (by omega)
  have hR : (A ++ B).length + 1 = (A ++ m :: B).length := by simp; omega
  obtain ⟨kd', sn', rc', sm', q1, w⟩ := qm_shift1 (x2 := nI m.1) (x3 := nI m.2.1) (x4 := nI m.2.2.1) (x5 := nI m.2.2.2) (ck' := ck') (b := A.length) (Q := A ++ m :: B) (R := A ++ B) (vp_in_nI ht (by decide)) (by rw [hct]; exact hck) hl e hR
    (fun i hi => by rw [List.getElem?_append_left hi, List.getElem?_append_left hi])
    (fun i hi => by
      rw [List.getElem?_append_right hi, List.getElem?_append_right (by omega), show i + 1 - A.length = (i - A.length) + 1 from by omega, List.getElem?_cons_succ])
    B.length A.length kd sn rc sm (by simp; omega) (Nat.le_refl _)
    (fun j m' hj hm => hQ j m' (by rw [List.getElem?_append_left hj] at hm ⊢; exact hm))
    (fun j m' _ hm => hQ j m' hm)
  refine ⟨(nI (A ++ B).length, kd', sn', rc', sm'), ⟨by show (A ++ B).length ≤ 200; omega, rfl, q1⟩, fun hp => ?_⟩
  have n1 : ¬ nI A.length < 0 := nI_pos (by omega)
  have n2 : nI A.length < fc := by rw [e]; exact nI_lt hlen (by omega)
  exact br_f n1 (br_t n2 (And.intro hi (nm_r (e' := nI m.1) (by rw [hc]; exact at_.1) (And.intro hi (nm_r (e' := nI m.2.1) (by rw [hc]; exact at_.2.1) (And.intro hi (nm_r (e' := nI m.2.2.1) (by rw [hc]; exact at_.2.2.1) (And.intro hi (nm_r (e' := nI m.2.2.2) (by rw [hc]; exact at_.2.2.2) (nm_r (nI_1 _) ⟨_, w hp⟩))))))))))
end
section
variable {y : qm_YT}
theorem qm_ysend {Q : List qm_M} (h : qm_PY Q y) (k f t m : Nat) :
    ∃ y' : qm_YT, qm_PY (qm_snd Q (k, f, t, m)) y' ∧ ∀ {co nn tp : Int32} {ph st ck en ov sd lo ls wt re : Nat → Int32} {post : SY → Prop}, post (co, nn, tp, y'.1, ph, st, ck, en, ov, sd, lo, ls, wt, y'.2.1, y'.2.2.1, y'.2.2.2.1, y'.2.2.2.2, re) → wpY_send post (co, nn, tp, y.1, ph, st, ck, en, ov, sd, lo, ls, wt, y.2.1, y.2.2.1, y.2.2.2.1, y.2.2.2.2, re) (nI k) (nI f) (nI t) (nI m) := qm_ysend0 h.1 h.2.1 h.2.2 k f t m
theorem qm_front {Q : List qm_M} {f t : Nat} (h : qm_PY Q y) (hV : qm_V9 Q) (hf : f < 9) (ht : t < 9) :
    ∃ r, qm_fst Q (f * 9 + t) r ∧ ∀ {co nn tp : Int32} {ph st ck en ov sd lo ls wt re : Nat → Int32} {post : Int32 → Prop}, post r → wpY_front post (co, nn, tp, y.1, ph, st, ck, en, ov, sd, lo, ls, wt, y.2.1, y.2.2.1, y.2.2.2.1, y.2.2.2.2, re) (nI f) (nI t) := qm_front0 hf ht h.2.2 hV h.1 h.2.1
end
end
section
/-! X: the line of an arbiter; w (a * 9 + n) is the stamp of n's entry at a, 0 if none -/
def qm_ln (w : Nat → Nat) (a : Nat) (l : List Nat) : Prop := l.Pairwise (· < ·) ∧ ∀ k, k ∈ l ↔ (k % 16 < 9 ∧ 1 ≤ k / 16 ∧ w (a * 9 + k % 16) = k / 16)
def qm_lr (a : Nat) (l : List Nat) (lk : Nat → Int32) : Prop := ∀ i k, l[i]? = some k → lk (a * 9 + i) = nI k
def qm_L1 (w : Nat → Nat) (lk ll lw : Nat → Int32) (a : Nat) : Prop := ∃ l, qm_ln w a l ∧ ll a = nI l.length ∧ qm_lr a l lk ∧ ∀ n, n < 32 → bt (lw a) n = decide (n < 9 ∧ 0 < w (a * 9 + n))
def qm_LX (w : Nat → Nat) (lk ll lw : Nat → Int32) : Prop := (∀ j, w j ≤ 999) ∧ ∀ a, a < 9 → qm_L1 w lk ll lw a
theorem qm_ln_nd {w : Nat → Nat} {a : Nat} {l : List Nat} (h : qm_ln w a l) : (l.map (· % 16)).Nodup := by
  unfold List.Nodup
  rw [List.pairwise_map]
  refine List.Pairwise.imp_of_mem ?_ h.1
  intro x y hx hy hlt e
  have h1 := (h.2 x).mp hx
  have h2 := (h.2 y).mp hy
  rw [e] at h1
  have : x / 16 = y / 16 := by rw [← h1.2.2, ← h2.2.2]
  omega
theorem qm_ln_len {w : Nat → Nat} {a : Nat} {l : List Nat} (h : qm_ln w a l) : l.length ≤ 9 := by
  have := qm_len (qm_ln_nd h) (n := 9) (by
    intro x hx
    obtain ⟨k, hk, e⟩ := List.mem_map.mp hx
    have := (h.2 k).mp hk
    omega)
  rwa [List.length_map] at this
theorem qm_ln_len8 {w : Nat → Nat} {a n : Nat} {l : List Nat} (h : qm_ln w a l) (hn : n < 9) (hz : w (a * 9 + n) = 0) : l.length ≤ 8 := by
  have h1 : n ∉ l.map (· % 16) := by
    intro hx
    obtain ⟨k, hk, e⟩ := List.mem_map.mp hx
    have h2 := (h.2 k).mp hk
    have e' : k % 16 = n := e
    rw [e', hz] at h2
    omega
  have := qm_len (l := n :: l.map (· % 16)) (n := 9) (List.nodup_cons.mpr ⟨h1, qm_ln_nd h⟩) (by
    intro x hx
    rcases List.mem_cons.mp hx with e | hx
    · omega
    · obtain ⟨k, hk, e⟩ := List.mem_map.mp hx
      have := (h.2 k).mp hk
      omega)
  rw [List.length_cons, List.length_map] at this
  omega
theorem qm_ln_k {w : Nat → Nat} {a : Nat} {l : List Nat} (hw : ∀ j, w j ≤ 999) (h : qm_ln w a l) {k : Nat} (hk : k ∈ l) : k < 16000 := by
  have h1 := (h.2 k).mp hk
  have h2 := hw (a * 9 + k % 16)
  omega
theorem qm_ln_oth {w : Nat → Nat} {a b n x : Nat} {l : List Nat} (hn : n < 9) (hb : b ≠ a) (h : qm_ln w b l) : qm_ln (qm_up w (a * 9 + n) x) b l := by
  refine ⟨h.1, fun k => ?_⟩
  rw [h.2 k]
  constructor
  · intro ⟨h1, h2, h3⟩
    exact ⟨h1, h2, by rw [qm_un9 hn h1 (Or.inl hb)]; exact h3⟩
  · intro ⟨h1, h2, h3⟩
    exact ⟨h1, h2, by rw [qm_un9 hn h1 (Or.inl hb)] at h3; exact h3⟩
theorem qm_ln_rm {w : Nat → Nat} {a n : Nat} {l : List Nat} (hn : n < 9) (h : qm_ln w a l) : qm_ln (qm_up w (a * 9 + n) 0) a (l.filter (fun k => k % 16 != n)) := by
  refine ⟨h.1.filter _, fun k => ?_⟩
  rw [List.mem_filter, h.2 k]
  constructor
  · intro ⟨⟨h1, h2, h3⟩, h4⟩
    have h4' : k % 16 ≠ n := by simpa using h4
    exact ⟨h1, h2, by rw [qm_un9 hn h1 (Or.inr h4')]; exact h3⟩
  · intro ⟨h1, h2, h3⟩
    by_cases e : k % 16 = n
    · rw [e, qm_us] at h3; omega
    · rw [qm_un9 hn h1 (Or.inr e)] at h3
      exact ⟨⟨h1, h2, h3⟩, by simpa using e⟩
theorem qm_ln_in {w : Nat → Nat} {a n s : Nat} {A B : List Nat} (hn : n < 9) (hs : 1 ≤ s) (hz : w (a * 9 + n) = 0) (h : qm_ln w a (A ++ B)) (hA : ∀ k, k ∈ A → k < 16 * s + n) (hB : ∀ k, k ∈ B → 16 * s + n < k) : qm_ln (qm_up w (a * 9 + n) s) a (A ++ (16 * s + n) :: B) := by
  have e1 : (16 * s + n) % 16 = n := by omega
  have e2 : (16 * s + n) / 16 = s := by omega
  have p := List.pairwise_append.mp h.1
  refine ⟨List.pairwise_append.mpr ⟨p.1, List.pairwise_cons.mpr ⟨hB, p.2.1⟩, ?_⟩, fun k => ?_⟩
  · intro x hx y hy
    rcases List.mem_cons.mp hy with e | hy
    · rw [e]; exact hA x hx
    · exact p.2.2 x hx y hy
  · have hk := h.2 k
    rw [List.mem_append] at hk ⊢
    rw [List.mem_cons]
    by_cases ek : k = 16 * s + n
    · subst ek
      rw [e1, e2, qm_us]
      exact ⟨fun _ => ⟨hn, hs, rfl⟩, fun _ => Or.inr (Or.inl rfl)⟩
    · have : (k ∈ A ∨ k = 16 * s + n ∨ k ∈ B) ↔ (k ∈ A ∨ k ∈ B) := by
        constructor
        · rintro (h | h | h)
          · exact Or.inl h
          · exact absurd h ek
          · exact Or.inr h
        · rintro (h | h)
          · exact Or.inl h
          · exact Or.inr (Or.inr h)
      rw [this, hk]
      by_cases em : k % 16 = n
      · rw [em, hz, qm_us]
        constructor
        · intro ⟨_, h2, h3⟩; omega
        · intro ⟨_, h2, h3⟩; omega
      · constructor
        · intro ⟨h1, h2, h3⟩
          exact ⟨h1, h2, by rw [qm_un9 hn h1 (Or.inr em)]; exact h3⟩
        · intro ⟨h1, h2, h3⟩
          exact ⟨h1, h2, by rw [qm_un9 hn h1 (Or.inr em)] at h3; exact h3⟩
theorem qm_lr_oth {a b : Nat} {l : List Nat} {lk lk' : Nat → Int32} (hl : l.length ≤ 9) (hf : ∀ j, (j < a * 9 ∨ a * 9 + 9 ≤ j) → lk' j = lk j) (hb : b ≠ a) (h : qm_lr b l lk) : qm_lr b l lk' := by
  intro i k hk
  have hi : i < l.length := by
    rcases Nat.lt_or_ge i l.length with z | z
    · exact z
    · rw [List.getElem?_eq_none z] at hk; exact absurd hk (by simp)
  rw [hf (b * 9 + i) (by omega)]
  exact h i k hk
section
variable {ll lw : Nat → Int32}
variable {a n : Nat}
theorem qm_rm36 (ha : a < 9) (hn : n < 9) {x3 : Int32} {l : List Nat} (hl : l.length ≤ 9) (hkb : ∀ k, k ∈ l → k < 16000) :
    ∀ (B A : List Nat) (lk : Nat → Int32), l = A ++ B → qm_lr a (A.filter (fun k => k % 16 != n)) lk → (∀ i k, B[i]? = some k → lk (a * 9 + A.length + i) = nI k) →
      ∃ lk', qm_lr a (l.filter (fun k => k % 16 != n)) lk' ∧ (∀ j, (j < a * 9 ∨ a * 9 + 9 ≤ j) → lk' j = lk j) ∧
        ∀ {nn tp wn : Int32} {p : qm_PT} {qb ph st ck hb rb lb en ov hk : Nat → Int32} {post : SX → Prop}, post (nn, tp, wn, p.1, p.2.1, p.2.2.1, p.2.2.2.1, p.2.2.2.2.1, qb, ph, st, ck, hb, rb, lb, en, ov, hk, lk', upd ll a (nI (l.filter (fun k => k % 16 != n)).length), upd lw a (lw a &&& (x3 ^^^ (-1))), p.2.2.2.2.2.1, p.2.2.2.2.2.2.1, p.2.2.2.2.2.2.2.1, p.2.2.2.2.2.2.2.2.1, p.2.2.2.2.2.2.2.2.2.1, p.2.2.2.2.2.2.2.2.2.2.1, p.2.2.2.2.2.2.2.2.2.2.2.1, p.2.2.2.2.2.2.2.2.2.2.2.2.1, p.2.2.2.2.2.2.2.2.2.2.2.2.2.1, p.2.2.2.2.2.2.2.2.2.2.2.2.2.2) → wX_removeWaiting_36 post (nI a) (nI n) x3 (nI (a * 9)) (nI l.length) nn tp wn p.1 p.2.1 p.2.2.1 p.2.2.2.1 p.2.2.2.2.1 (B.length + 1) (nI (A.filter (fun k => k % 16 != n)).length) (nI A.length) qb ph st ck hb rb lb en ov hk lk ll lw p.2.2.2.2.2.1 p.2.2.2.2.2.2.1 p.2.2.2.2.2.2.2.1 p.2.2.2.2.2.2.2.2.1 p.2.2.2.2.2.2.2.2.2.1 p.2.2.2.2.2.2.2.2.2.2.1 p.2.2.2.2.2.2.2.2.2.2.2.1 p.2.2.2.2.2.2.2.2.2.2.2.2.1 p.2.2.2.2.2.2.2.2.2.2.2.2.2.1 p.2.2.2.2.2.2.2.2.2.2.2.2.2.2
  | [], A, lk, e, h1, h2 => by
    have e' : l = A := by rw [e, List.append_nil]
    subst e'
    refine ⟨lk, h1, fun _ _ => rfl, fun hp => ?_⟩
    have hia : vp_in (nI a) 9 := vp_in_nI ha (by decide)
    have hca : (nI a).toNatClampNeg = a := nI_clamp (by omega)
    exact br_t (nI_le (Nat.le_refl _) (by omega)) (And.intro hia (nm_r (e' := upd ll a (nI (l.filter (fun k => k % 16 != n)).length)) (by rw [hca]) (And.intro hia (And.intro hia (nm_r (e' := upd lw a (lw a &&& (x3 ^^^ (-1)))) (by rw [hca]) hp)))))
  | k :: B, A, lk, e, h1, h2 => by
    have hlA : A.length < l.length := by rw [e]; simp
    have hkk : k < 16000 := hkb k (by rw [e]; simp)
    have hfl : (A.filter (fun k => k % 16 != n)).length ≤ A.length := List.length_filter_le ..
    have nle : ¬ nI l.length ≤ nI A.length := nI_ge hlA (by omega)
    have ei : nI (a * 9) + nI A.length = nI (a * 9 + A.length) := nI_add ..
    have hi : vp_in (nI (a * 9) + nI A.length) 81 := by rw [ei]; exact vp_in_nI (by omega) (by decide)
    have hci : (nI (a * 9) + nI A.length).toNatClampNeg = a * 9 + A.length := by rw [ei]; exact nI_clamp (by omega)
    have rd : lk (nI (a * 9) + nI A.length).toNatClampNeg = nI k := by rw [hci]; exact h2 0 k rfl
    have e15 : nI k &&& 15 = nI (k % 16) := qm_k15 (by omega)
    have hB2 : ∀ (lk1 : Nat → Int32), (∀ j, a * 9 + A.length < j → lk1 j = lk j) → ∀ i k', B[i]? = some k' → lk1 (a * 9 + (A ++ [k]).length + i) = nI k' := by
      intro lk1 hh i k' hk'
      have := h2 (i + 1) k' (by rw [List.getElem?_cons_succ]; exact hk')
      rw [List.length_append, List.length_singleton, hh _ (by omega), show a * 9 + (A.length + 1) + i = a * 9 + A.length + (i + 1) from by omega]
      exact this
    by_cases em : k % 16 = n
    · have ef : (A ++ [k]).filter (fun k => k % 16 != n) = A.filter (fun k => k % 16 != n) := by
        rw [List.filter_append]
        simp [em]
      obtain ⟨lk', r1, r2, w⟩ := qm_rm36 ha hn (x3 := x3) hl hkb B (A ++ [k]) lk (by rw [e]; simp) (by rw [ef]; exact h1) (hB2 lk (fun _ _ => rfl))
      rw [ef, List.length_append] at w
      refine ⟨lk', r1, r2, fun hp => ?_⟩
      exact br_f nle (And.intro hi (nm_r rd (br_t (by rw [e15, em]) (nm_r (nI_1 _) (w hp)))))
    · have ef : (A ++ [k]).filter (fun k => k % 16 != n) = A.filter (fun k => k % 16 != n) ++ [k] := by
        rw [List.filter_append]
        simp [em]
      have ek : nI (a * 9) + nI (A.filter (fun k => k % 16 != n)).length = nI (a * 9 + (A.filter (fun k => k % 16 != n)).length) := nI_add ..
      have hik : vp_in (nI (a * 9) + nI (A.filter (fun k => k % 16 != n)).length) 81 := by rw [ek]; exact vp_in_nI (by omega) (by decide)
      have hck : (nI (a * 9) + nI (A.filter (fun k => k % 16 != n)).length).toNatClampNeg = a * 9 + (A.filter (fun k => k % 16 != n)).length := by rw [ek]; exact nI_clamp (by omega)
      obtain ⟨lk', r1, r2, w⟩ := qm_rm36 ha hn (x3 := x3) hl hkb B (A ++ [k]) (upd lk (a * 9 + (A.filter (fun k => k % 16 != n)).length) (nI k)) (by rw [e]; simp)
        (by
          rw [ef]
          intro i k' hk'
          by_cases e1 : i < (A.filter (fun k => k % 16 != n)).length
          · rw [List.getElem?_append_left e1] at hk'
            rw [pk_un (by omega)]
            exact h1 i k' hk'
          · rw [List.getElem?_append_right (by omega)] at hk'
            have e2 : i - (A.filter (fun k => k % 16 != n)).length = 0 := by
              rcases Nat.eq_zero_or_pos (i - (A.filter (fun k => k % 16 != n)).length) with z | z
              · exact z
              · rw [List.getElem?_eq_none (by simp; omega)] at hk'
                exact absurd hk' (by simp)
            rw [e2] at hk'
            have e4 : k = k' := by simpa using hk'
            have e3 : i = (A.filter (fun k => k % 16 != n)).length := by omega
            rw [e3, ← e4]
            exact pk_us)
        (hB2 _ (fun j hj => pk_un (by omega)))
      rw [ef, List.length_append, List.length_append] at w
      refine ⟨lk', r1, fun j hj => by rw [r2 j hj]; exact pk_un (by omega), fun hp => ?_⟩
      exact br_f nle (And.intro hi (nm_r rd (br_f (by rw [e15, nI_eq (by omega) (by omega)]; exact em) (And.intro hik (nm_r (e' := upd lk (a * 9 + (A.filter (fun k => k % 16 != n)).length) (nI k)) (by rw [hck]) (nm_r (nI_1 _) (nm_r (nI_1 _) (w hp))))))))
theorem qm_xrem {w : Nat → Nat} {lk : Nat → Int32} (h : qm_LX w lk ll lw) (ha : a < 9) (hn : n < 9) :
    ∃ lk' ll' lw', qm_LX (qm_up w (a * 9 + n) 0) lk' ll' lw' ∧ ∀ {nn tp wn : Int32} {p : qm_PT} {qb ph st ck hb rb lb en ov hk : Nat → Int32} {x : Int32} {post : SX → Prop}, x = nI n → post (nn, tp, wn, p.1, p.2.1, p.2.2.1, p.2.2.2.1, p.2.2.2.2.1, qb, ph, st, ck, hb, rb, lb, en, ov, hk, lk', ll', lw', p.2.2.2.2.2.1, p.2.2.2.2.2.2.1, p.2.2.2.2.2.2.2.1, p.2.2.2.2.2.2.2.2.1, p.2.2.2.2.2.2.2.2.2.1, p.2.2.2.2.2.2.2.2.2.2.1, p.2.2.2.2.2.2.2.2.2.2.2.1, p.2.2.2.2.2.2.2.2.2.2.2.2.1, p.2.2.2.2.2.2.2.2.2.2.2.2.2.1, p.2.2.2.2.2.2.2.2.2.2.2.2.2.2) → wpX_removeWaiting post (nn, tp, wn, p.1, p.2.1, p.2.2.1, p.2.2.2.1, p.2.2.2.2.1, qb, ph, st, ck, hb, rb, lb, en, ov, hk, lk, ll, lw, p.2.2.2.2.2.1, p.2.2.2.2.2.2.1, p.2.2.2.2.2.2.2.1, p.2.2.2.2.2.2.2.2.1, p.2.2.2.2.2.2.2.2.2.1, p.2.2.2.2.2.2.2.2.2.2.1, p.2.2.2.2.2.2.2.2.2.2.2.1, p.2.2.2.2.2.2.2.2.2.2.2.2.1, p.2.2.2.2.2.2.2.2.2.2.2.2.2.1, p.2.2.2.2.2.2.2.2.2.2.2.2.2.2) (nI a) x := by
  have hia : vp_in (nI a) 9 := vp_in_nI ha (by decide)
  have hca : (nI a).toNatClampNeg = a := nI_clamp (by omega)
  obtain ⟨l, h1, h2, h3, h4⟩ := h.2 a ha
  have hw' : ∀ j, qm_up w (a * 9 + n) 0 j ≤ 999 := by
    intro j
    by_cases e : j = a * 9 + n
    · rw [e, qm_us]; omega
    · rw [qm_un e]; exact h.1 j
  have hbn := h4 n (by omega)
  by_cases z : w (a * 9 + n) = 0
  · refine ⟨lk, ll, lw, by rw [qm_usame z]; exact h, fun hx hp => ?_⟩
    subst hx
    have b0 : bt (lw a) n = false := by rw [hbn, z]; exact decide_eq_false (by omega)
    exact nm_e (And.intro hia (br_t (by rw [hca, qm_a0 (by omega)]; exact b0) hp))
  · have b1 : ¬ bt (lw a) n = false := by
      rw [hbn, decide_eq_true (show n < 9 ∧ 0 < w (a * 9 + n) from ⟨hn, by omega⟩)]
      decide
    have hl := qm_ln_len h1
    obtain ⟨lk', r1, r2, wp⟩ := qm_rm36 (ll := ll) (lw := lw) ha hn (x3 := (1 : Int32) <<< (nI n &&& 31)) hl (fun k hk => qm_ln_k h.1 h1 hk) l [] lk rfl (fun i k hk => absurd hk (by simp)) (fun i k hk => h3 i k hk)
    refine ⟨lk', upd ll a (nI (l.filter (fun k => k % 16 != n)).length), upd lw a (lw a &&& (((1 : Int32) <<< (nI n &&& 31)) ^^^ (-1))), ⟨hw', fun b hb9 => ?_⟩, fun hx hp => ?_⟩
    · by_cases e : b = a
      · subst e
        refine ⟨_, qm_ln_rm hn h1, pk_us, r1, fun i hi => ?_⟩
        rw [pk_us, qm_bcl (by omega) hi, h4 i hi]
        by_cases ei : i = n
        · subst ei
          rw [qm_us]
          simp
        · by_cases i9 : i < 9
          · rw [qm_un9 hn i9 (Or.inr ei)]
            simp [ei]
          · simp [i9]
      · obtain ⟨l', q1, q2, q3, q4⟩ := h.2 b hb9
        refine ⟨l', qm_ln_oth hn e q1, by rw [pk_un e]; exact q2, qm_lr_oth (qm_ln_len q1) r2 e q3, fun i hi => ?_⟩
        rw [pk_un e, q4 i hi]
        by_cases i9 : i < 9
        · rw [qm_un9 hn i9 (Or.inl e)]
        · simp [i9]
    · subst hx
      exact nm_e (And.intro hia (br_f (by rw [hca, qm_a0 (by omega)]; exact b1) (nm_r (e' := nI (a * 9)) qm_i9 (And.intro hia (nm_r (e' := nI l.length) (by rw [hca]; exact h2) ⟨_, wp hp⟩)))))
end
end
section
/-! X: addWaiting -/
section
variable {ll lw : Nat → Int32}
variable {a n s : Nat}
theorem qm_ad86 {lk : Nat → Int32} (ha : a < 9) (hn : n < 9) (hs : s ≤ 999) {A B : List Nat} (hl : (A ++ B).length ≤ 8) (h1 : qm_lr a A lk) (h2 : ∀ i k, B[i]? = some k → lk (a * 9 + A.length + 1 + i) = nI k) :
    qm_lr a (A ++ (16 * s + n) :: B) (upd lk (a * 9 + A.length) (nI (16 * s + n))) ∧ (∀ j, (j < a * 9 ∨ a * 9 + 9 ≤ j) → upd lk (a * 9 + A.length) (nI (16 * s + n)) j = lk j) ∧
    ∀ {nn tp wn : Int32} {p : qm_PT} {qb ph st ck hb rb lb en ov hk ll : Nat → Int32} {post : SX → Prop}, post (nn, tp, wn, p.1, p.2.1, p.2.2.1, p.2.2.2.1, p.2.2.2.2.1, qb, ph, st, ck, hb, rb, lb, en, ov, hk, upd lk (a * 9 + A.length) (nI (16 * s + n)), ll, upd lw a (lw a ||| ((1 : Int32) <<< (nI n &&& 31))), p.2.2.2.2.2.1, p.2.2.2.2.2.2.1, p.2.2.2.2.2.2.2.1, p.2.2.2.2.2.2.2.2.1, p.2.2.2.2.2.2.2.2.2.1, p.2.2.2.2.2.2.2.2.2.2.1, p.2.2.2.2.2.2.2.2.2.2.2.1, p.2.2.2.2.2.2.2.2.2.2.2.2.1, p.2.2.2.2.2.2.2.2.2.2.2.2.2.1, p.2.2.2.2.2.2.2.2.2.2.2.2.2.2) → wX_addWaiting_86 post (nI a) (nI (16 * s + n)) (nI (a * 9)) (nI A.length) nn tp wn p.1 p.2.1 p.2.2.1 p.2.2.2.1 p.2.2.2.2.1 qb ph st ck hb rb lb en ov hk lk ll lw p.2.2.2.2.2.1 p.2.2.2.2.2.2.1 p.2.2.2.2.2.2.2.1 p.2.2.2.2.2.2.2.2.1 p.2.2.2.2.2.2.2.2.2.1 p.2.2.2.2.2.2.2.2.2.2.1 p.2.2.2.2.2.2.2.2.2.2.2.1 p.2.2.2.2.2.2.2.2.2.2.2.2.1 p.2.2.2.2.2.2.2.2.2.2.2.2.2.1 p.2.2.2.2.2.2.2.2.2.2.2.2.2.2 := by
  have hlA : A.length ≤ 8 := by rw [List.length_append] at hl; omega
  refine ⟨?_, fun j hj => pk_un (by omega), fun hp => ?_⟩
  · intro i k hk'
    by_cases e1 : i < A.length
    · rw [List.getElem?_append_left e1] at hk'
      rw [pk_un (by omega)]
      exact h1 i k hk'
    · rw [List.getElem?_append_right (by omega)] at hk'
      by_cases e2 : i = A.length
      · subst e2
        rw [Nat.sub_self] at hk'
        have e4 : 16 * s + n = k := by simpa using hk'
        rw [← e4]
        exact pk_us
      · rw [show i - A.length = (i - A.length - 1) + 1 from by omega, List.getElem?_cons_succ] at hk'
        rw [pk_un (by omega), ← h2 _ k hk']
        apply congrArg lk
        omega
  · have hia : vp_in (nI a) 9 := vp_in_nI ha (by decide)
    have hca : (nI a).toNatClampNeg = a := nI_clamp (by omega)
    have ei : nI (a * 9) + nI A.length = nI (a * 9 + A.length) := nI_add ..
    have hi : vp_in (nI (a * 9) + nI A.length) 81 := by rw [ei]; exact vp_in_nI (by omega) (by decide)
    have hci : (nI (a * 9) + nI A.length).toNatClampNeg = a * 9 + A.length := by rw [ei]; exact nI_clamp (by omega)
    have e15 : nI (16 * s + n) &&& 15 = nI n := by
      rw [qm_k15 (by omega)]
      exact congrArg nI (by omega)
    exact And.intro hi (nm_r (e' := upd lk (a * 9 + A.length) (nI (16 * s + n))) (by rw [hci]) (And.intro hia (And.intro hia (nm_r (e' := upd lw a (lw a ||| ((1 : Int32) <<< (nI n &&& 31)))) (by rw [hca, e15]) hp))))
theorem qm_ad40 (ha : a < 9) (hn : n < 9) (hs : s ≤ 999) {l : List Nat} (hl : l.length ≤ 8) (hkb : ∀ k, k ∈ l → k < 16000) (hso : l.Pairwise (· < ·)) (hno : 16 * s + n ∉ l) :
    ∀ (m : Nat) (A B : List Nat) (lk : Nat → Int32), A.length = m → l = A ++ B → (∀ k, k ∈ B → 16 * s + n < k) → qm_lr a A lk → (∀ i k, B[i]? = some k → lk (a * 9 + A.length + 1 + i) = nI k) →
      ∃ A' B' lk', l = A' ++ B' ∧ (∀ k, k ∈ A' → k < 16 * s + n) ∧ (∀ k, k ∈ B' → 16 * s + n < k) ∧ qm_lr a (A' ++ (16 * s + n) :: B') lk' ∧ (∀ j, (j < a * 9 ∨ a * 9 + 9 ≤ j) → lk' j = lk j) ∧
        ∀ {nn tp wn : Int32} {p : qm_PT} {qb ph st ck hb rb lb en ov hk ll : Nat → Int32} {post : SX → Prop}, post (nn, tp, wn, p.1, p.2.1, p.2.2.1, p.2.2.2.1, p.2.2.2.2.1, qb, ph, st, ck, hb, rb, lb, en, ov, hk, lk', ll, upd lw a (lw a ||| ((1 : Int32) <<< (nI n &&& 31))), p.2.2.2.2.2.1, p.2.2.2.2.2.2.1, p.2.2.2.2.2.2.2.1, p.2.2.2.2.2.2.2.2.1, p.2.2.2.2.2.2.2.2.2.1, p.2.2.2.2.2.2.2.2.2.2.1, p.2.2.2.2.2.2.2.2.2.2.2.1, p.2.2.2.2.2.2.2.2.2.2.2.2.1, p.2.2.2.2.2.2.2.2.2.2.2.2.2.1, p.2.2.2.2.2.2.2.2.2.2.2.2.2.2) → wX_addWaiting_40 post (nI a) (nI (16 * s + n)) (nI (a * 9)) nn tp wn p.1 p.2.1 p.2.2.1 p.2.2.2.1 p.2.2.2.2.1 (m + 1) (nI m) qb ph st ck hb rb lb en ov hk lk ll lw p.2.2.2.2.2.1 p.2.2.2.2.2.2.1 p.2.2.2.2.2.2.2.1 p.2.2.2.2.2.2.2.2.1 p.2.2.2.2.2.2.2.2.2.1 p.2.2.2.2.2.2.2.2.2.2.1 p.2.2.2.2.2.2.2.2.2.2.2.1 p.2.2.2.2.2.2.2.2.2.2.2.2.1 p.2.2.2.2.2.2.2.2.2.2.2.2.2.1 p.2.2.2.2.2.2.2.2.2.2.2.2.2.2
  | 0, A, B, lk, em, e, hB, h1, h2 => by
    have eA : A = [] := List.eq_nil_of_length_eq_zero em
    subst eA
    obtain ⟨q1, q2, q3⟩ := qm_ad86 (lk := lk) (lw := lw) ha hn hs (by rw [← e]; exact hl) h1 h2
    exact ⟨[], B, _, e, fun k hk' => absurd hk' (by simp), hB, q1, q2, fun hp => br_t (Int32.le_refl _) (q3 hp)⟩
  | m + 1, A, B, lk, em, e, hB, h1, h2 => by
    rcases qm_rcons A with z | ⟨A2, k, z⟩
    · rw [z] at em; simp at em
    · subst z
      have em2 : A2.length = m := by simpa using em
      have hlm : m + 1 ≤ 8 := by
        rw [e, List.length_append, em] at hl
        omega
      have hkk : k < 16000 := hkb k (by rw [e]; simp)
      have np : ¬ nI (m + 1) ≤ 0 := nI_nle (by omega) (by omega)
      have ei : nI (a * 9) + nI (m + 1) - 1 = nI (a * 9 + m) := by
        rw [nI_add, ← Nat.add_assoc, nI_pred]
      have hi : vp_in (nI (a * 9) + nI (m + 1) - 1) 81 := by rw [ei]; exact vp_in_nI (by omega) (by decide)
      have hci : (nI (a * 9) + nI (m + 1) - 1).toNatClampNeg = a * 9 + m := by rw [ei]; exact nI_clamp (by omega)
      have rdk : lk (a * 9 + m) = nI k := h1 m k (by rw [← em2]; simp)
      have rd : lk (nI (a * 9) + nI (m + 1) - 1).toNatClampNeg = nI k := by rw [hci]; exact rdk
      by_cases hle : k ≤ 16 * s + n
      · obtain ⟨q1, q2, q3⟩ := qm_ad86 (lk := lk) (lw := lw) ha hn hs (by rw [← e]; exact hl) h1 h2
        rw [em] at q3
        refine ⟨A2 ++ [k], B, _, e, fun x hx => ?_, hB, q1, q2, fun hp => ?_⟩
        · have hklt : k < 16 * s + n := by
            rcases Nat.lt_or_ge k (16 * s + n) with z | z
            · exact z
            · exact absurd (by rw [e]; simp; omega) hno
          rcases List.mem_append.mp hx with hx | hx
          · have p1 := (List.pairwise_append.mp (by rw [e] at hso; exact hso)).1
            have p2 := (List.pairwise_append.mp p1).2.2 x hx k (by simp)
            omega
          · rw [List.mem_singleton.mp hx]; exact hklt
        · refine br_f np (And.intro hi (br_t ?_ (q3 ?_)))
          · rw [rd]; exact nI_le hle (by omega)
          · rw [em] at hp; exact hp
      · have ej : nI (a * 9) + nI (m + 1) = nI (a * 9 + m + 1) := nI_add ..
        have hj : vp_in (nI (a * 9) + nI (m + 1)) 81 := by rw [ej]; exact vp_in_nI (by omega) (by decide)
        have hcj : (nI (a * 9) + nI (m + 1)).toNatClampNeg = a * 9 + m + 1 := by rw [ej]; exact nI_clamp (by omega)
        obtain ⟨A', B', lk', r1, r2, r3, r4, r5, w⟩ := qm_ad40 ha hn hs hl hkb hso hno m A2 (k :: B) (upd lk (a * 9 + m + 1) (nI k)) em2 (by rw [e]; simp)
          (by
            intro x hx
            rcases List.mem_cons.mp hx with e1 | hx
            · omega
            · exact hB x hx)
          (by
            intro i k' hk'
            have hi' : i < A2.length := by
              rcases Nat.lt_or_ge i A2.length with z | z
              · exact z
              · rw [List.getElem?_eq_none z] at hk'; exact absurd hk' (by simp)
            rw [pk_un (by omega)]
            exact h1 i k' (by rw [List.getElem?_append_left hi']; exact hk'))
          (by
            intro i k' hk'
            cases i with
            | zero =>
              have e4 : k = k' := by simpa using hk'
              rw [← e4, em2]
              exact pk_us
            | succ i =>
              rw [List.getElem?_cons_succ] at hk'
              rw [pk_un (by omega), ← h2 i k' hk']
              apply congrArg lk
              rw [em]
              omega)
        refine ⟨A', B', lk', r1, r2, r3, r4, fun j hj' => by rw [r5 j hj']; exact pk_un (by omega), fun hp => ?_⟩
        refine br_f np (And.intro hi (br_f ?_ (And.intro hi (And.intro hj (nm_r (e' := upd lk (a * 9 + m + 1) (nI k)) (by rw [hcj, rd]) (nm_r (pk_m1 _) (w hp)))))))
        rw [rd]
        exact nI_ge (by omega) (by omega)
theorem qm_xadd {w : Nat → Nat} {lk : Nat → Int32} (h : qm_LX w lk ll lw) (ha : a < 9) (hn : n < 9) (hs1 : 1 ≤ s) (hs : s ≤ 999) :
    ∃ lk' ll' lw', qm_LX (qm_up w (a * 9 + n) s) lk' ll' lw' ∧ ∀ {nn tp wn : Int32} {p : qm_PT} {qb ph st ck hb rb lb en ov hk : Nat → Int32} {x : Int32} {post : SX → Prop}, x = nI (16 * s + n) → post (nn, tp, wn, p.1, p.2.1, p.2.2.1, p.2.2.2.1, p.2.2.2.2.1, qb, ph, st, ck, hb, rb, lb, en, ov, hk, lk', ll', lw', p.2.2.2.2.2.1, p.2.2.2.2.2.2.1, p.2.2.2.2.2.2.2.1, p.2.2.2.2.2.2.2.2.1, p.2.2.2.2.2.2.2.2.2.1, p.2.2.2.2.2.2.2.2.2.2.1, p.2.2.2.2.2.2.2.2.2.2.2.1, p.2.2.2.2.2.2.2.2.2.2.2.2.1, p.2.2.2.2.2.2.2.2.2.2.2.2.2.1, p.2.2.2.2.2.2.2.2.2.2.2.2.2.2) → wpX_addWaiting post (nn, tp, wn, p.1, p.2.1, p.2.2.1, p.2.2.2.1, p.2.2.2.2.1, qb, ph, st, ck, hb, rb, lb, en, ov, hk, lk, ll, lw, p.2.2.2.2.2.1, p.2.2.2.2.2.2.1, p.2.2.2.2.2.2.2.1, p.2.2.2.2.2.2.2.2.1, p.2.2.2.2.2.2.2.2.2.1, p.2.2.2.2.2.2.2.2.2.2.1, p.2.2.2.2.2.2.2.2.2.2.2.1, p.2.2.2.2.2.2.2.2.2.2.2.2.1, p.2.2.2.2.2.2.2.2.2.2.2.2.2.1, p.2.2.2.2.2.2.2.2.2.2.2.2.2.2) (nI a) x := by
  have hia : vp_in (nI a) 9 := vp_in_nI ha (by decide)
  have hca : (nI a).toNatClampNeg = a := nI_clamp (by omega)
  have e15 : nI (16 * s + n) &&& 15 = nI n := by
    rw [qm_k15 (by omega)]
    exact congrArg nI (by omega)
  obtain ⟨lk1, ll1, lw1, hX, wr⟩ := qm_xrem h ha hn
  obtain ⟨l, h1, h2, h3, h4⟩ := hX.2 a ha
  have hz : qm_up w (a * 9 + n) 0 (a * 9 + n) = 0 := qm_us
  have hl8 := qm_ln_len8 h1 hn hz
  have hno : 16 * s + n ∉ l := by
    intro hm
    have := (h1.2 _).mp hm
    rw [show (16 * s + n) % 16 = n from by omega, hz] at this
    omega
  obtain ⟨A', B', lk', r1, r2, r3, r4, r5, w40⟩ := qm_ad40 (lw := lw1) ha hn hs hl8 (fun k hk' => qm_ln_k hX.1 h1 hk') h1.1 hno l.length l [] lk1 rfl (by simp) (by simp) h3 (by simp)
  refine ⟨lk', upd ll1 a (nI (l.length + 1)), upd lw1 a (lw1 a ||| ((1 : Int32) <<< (nI n &&& 31))), ⟨?_, fun b hb9 => ?_⟩, fun hx hp => ?_⟩
  · intro j
    by_cases e : j = a * 9 + n
    · rw [e, qm_us]; exact hs
    · rw [qm_un e]; exact h.1 j
  · rw [← qm_uu (w := w) (x := 0)]
    by_cases e : b = a
    · subst e
      rw [r1] at h1
      refine ⟨_, qm_ln_in hn hs1 hz h1 r2 r3, ?_, r4, fun i hi => ?_⟩
      · rw [pk_us, r1]
        apply congrArg nI
        simp
        omega
      · rw [pk_us, qm_bst (by omega) hi, h4 i hi]
        by_cases ei : i = n
        · subst ei
          rw [qm_us, qm_us]
          simp [hn]
          omega
        · by_cases i9 : i < 9
          · rw [qm_un9 (w := qm_up w (b * 9 + n) 0) hn i9 (Or.inr ei)]
            simp [ei]
          · simp [i9, ei]
    · obtain ⟨l', q1, q2, q3, q4⟩ := hX.2 b hb9
      refine ⟨l', qm_ln_oth hn e q1, by rw [pk_un e]; exact q2, qm_lr_oth (qm_ln_len q1) r5 e q3, fun i hi => ?_⟩
      rw [pk_un e, q4 i hi]
      by_cases i9 : i < 9
      · rw [qm_un9 (w := qm_up w (a * 9 + n) 0) hn i9 (Or.inl e)]
      · simp [i9]
  · subst hx
    have lt9 : nI l.length < 9 := nI_lt (b := 9) (by omega) (by decide)
    unfold wpX_addWaiting
    refine wr e15 ?_
    exact (nm_r (e' := nI (a * 9)) qm_i9 (And.intro hia (nm_r (e' := nI l.length) (by rw [hca]; exact h2) (br_t lt9 (And.intro hia (nm_r (e' := upd ll1 a (nI (l.length + 1))) (by rw [hca, nI_1]) ⟨_, w40 hp⟩))))))
end
end
section
/-! quorums, standings -/
def qm_q (W n m : Nat) : Bool := n / W == m / W || n % W == m % W
theorem qm_q_iff {W n m : Nat} : qm_q W n m = true ↔ (n / W = m / W ∨ n % W = m % W) := by
  unfold qm_q
  rw [Bool.or_eq_true, beq_iff_eq, beq_iff_eq]
theorem qm_q_symm {W n m : Nat} (h : qm_q W n m = true) : qm_q W m n = true := by
  rw [qm_q_iff] at h ⊢
  rcases h with h | h
  · exact Or.inl h.symm
  · exact Or.inr h.symm
theorem qm_q_f {W n m : Nat} (h : ¬ qm_q W n m = true) : qm_q W n m = false := by
  cases e : qm_q W n m
  · rfl
  · exact absurd e h
def qm_QB (N W : Nat) (qb : Nat → Int32) : Prop := ∀ n, n < N → ∀ m, m < 32 → bt (qb n) m = decide (m < N ∧ qm_q W n m = true)
/-- the standing v for all of n's quorum below i -/
def qm_sv (i W n v : Nat) (sg : Nat → Nat) : Nat → Nat := fun j => if j / 9 = n ∧ j % 9 < i ∧ qm_q W n (j % 9) = true then v else sg j
theorem qm_sv0 {W n v : Nat} {sg : Nat → Nat} : qm_sv 0 W n v sg = sg := by
  funext j
  unfold qm_sv
  rw [if_neg (by omega)]
theorem qm_sv1 {W n v i : Nat} {sg : Nat → Nat} (hi : i < 9) (hq : qm_q W n i = true) : qm_sv (i + 1) W n v sg = qm_up (qm_sv i W n v sg) (n * 9 + i) v := by
  funext j
  by_cases e : j = n * 9 + i
  · subst e
    rw [qm_us]
    unfold qm_sv
    have e1 : (n * 9 + i) / 9 = n := by omega
    have e2 : (n * 9 + i) % 9 = i := by omega
    rw [e1, e2, if_pos ⟨rfl, by omega, hq⟩]
  · rw [qm_un e]
    unfold qm_sv
    by_cases c : j / 9 = n ∧ j % 9 < i ∧ qm_q W n (j % 9) = true
    · rw [if_pos c, if_pos ⟨c.1, by omega, c.2.2⟩]
    · rw [if_neg c, if_neg]
      intro h
      apply c
      refine ⟨h.1, ?_, h.2.2⟩
      omega
theorem qm_sv2 {W n v i : Nat} {sg : Nat → Nat} (hq : ¬ qm_q W n i = true) : qm_sv (i + 1) W n v sg = qm_sv i W n v sg := by
  funext j
  unfold qm_sv
  by_cases c : j / 9 = n ∧ j % 9 < i ∧ qm_q W n (j % 9) = true
  · rw [if_pos c, if_pos ⟨c.1, by omega, c.2.2⟩]
  · rw [if_neg c, if_neg]
    intro h
    apply c
    refine ⟨h.1, ?_, h.2.2⟩
    rcases Nat.lt_or_ge (j % 9) i with z | z
    · exact z
    · have : j % 9 = i := by omega
      rw [this] at h
      exact absurd h.2.2 hq
theorem qm_sv_at {N W n v m a : Nat} {sg : Nat → Nat} (ha : a < 9) : qm_sv N W n v sg (m * 9 + a) = if m = n ∧ a < N ∧ qm_q W n a = true then v else sg (m * 9 + a) := by
  unfold qm_sv
  rw [show (m * 9 + a) / 9 = m from by omega, show (m * 9 + a) % 9 = a from by omega]
/-- X's three sets of bits against the standings sg (requester * 9 + arbiter) -/
def qm_SB (N W : Nat) (sg : Nat → Nat) (hb rb lb : Nat → Int32) : Prop :=
  (∀ n, n < 9 → ∀ a, a < 32 → bt (hb n) a = decide (a < 9 ∧ sg (n * 9 + a) = 1) ∧ bt (rb n) a = decide (a < 9 ∧ sg (n * 9 + a) = 2) ∧ bt (lb n) a = decide (a < 9 ∧ sg (n * 9 + a) = 3)) ∧
  ∀ n, n < 9 → ∀ a, a < 9 → sg (n * 9 + a) ≤ 3 ∧ (sg (n * 9 + a) ≠ 0 → n < N ∧ a < N ∧ qm_q W n a = true)
theorem qm_SB_up {N W : Nat} {sg : Nat → Nat} {hb rb lb : Nat → Int32} {r a v : Nat} {xh xr xl : Int32} (h : qm_SB N W sg hb rb lb) (hr : r < N) (ha : a < N) (hN : N ≤ 9) (hq : qm_q W r a = true) (hv : v ≤ 3)
    (b1 : ∀ i, i < 32 → bt xh i = if i = a then decide (v = 1) else bt (hb r) i) (b2 : ∀ i, i < 32 → bt xr i = if i = a then decide (v = 2) else bt (rb r) i) (b3 : ∀ i, i < 32 → bt xl i = if i = a then decide (v = 3) else bt (lb r) i) :
    qm_SB N W (qm_up sg (r * 9 + a) v) (upd hb r xh) (upd rb r xr) (upd lb r xl) := by
  refine ⟨fun n hn i hi => ?_, fun n hn i hi => ?_⟩
  · have k := h.1 n hn i hi
    by_cases e : n = r
    · subst e
      rw [pk_us, pk_us, pk_us, b1 i hi, b2 i hi, b3 i hi]
      by_cases ei : i = a
      · subst ei
        rw [if_pos rfl, if_pos rfl, if_pos rfl, qm_us]
        have : i < 9 := by omega
        simp [this]
      · rw [if_neg ei, if_neg ei, if_neg ei]
        by_cases i9 : i < 9
        · rw [qm_un9 (by omega) i9 (Or.inr ei)]
          exact k
        · simp only [i9, false_and] at k ⊢
          exact k
    · rw [pk_un e, pk_un e, pk_un e]
      by_cases i9 : i < 9
      · rw [qm_un9 (by omega) i9 (Or.inl e)]
        exact k
      · simp only [i9, false_and] at k ⊢
        exact k
  · have k := h.2 n hn i hi
    by_cases e : n = r ∧ i = a
    · rw [e.1, e.2, qm_us]
      exact ⟨hv, fun _ => ⟨hr, ha, hq⟩⟩
    · rw [qm_un9 (by omega) hi (by omega)]
      exact k
/-- all of n's quorum gets the standing v, 0 or 1 -/
theorem qm_SB_sv {N W : Nat} {sg : Nat → Nat} {hb rb lb : Nat → Int32} {r v : Nat} {xh : Int32} (h : qm_SB N W sg hb rb lb) (hr : r < N) (hN : N ≤ 9) (hv : v ≤ 1)
    (b1 : ∀ i, i < 32 → bt xh i = decide (v = 1 ∧ i < N ∧ qm_q W r i = true)) :
    qm_SB N W (qm_sv N W r v sg) (upd hb r xh) (upd rb r 0) (upd lb r 0) := by
  refine ⟨fun n hn i hi => ?_, fun n hn i hi => ?_⟩
  · have k := h.1 n hn i hi
    by_cases e : n = r
    · subst e
      rw [pk_us, pk_us, pk_us, b1 i hi, b_0]
      by_cases i9 : i < 9
      · rw [qm_sv_at i9]
        have k2 := h.2 n hn i i9
        by_cases c : n = n ∧ i < N ∧ qm_q W n i = true
        · rw [if_pos c]
          have v2 : v ≠ 2 := by omega
          have v3 : v ≠ 3 := by omega
          simp [c.2.1, c.2.2, i9, v2, v3]
        · rw [if_neg c]
          have z : sg (n * 9 + i) = 0 := by
            rcases Nat.eq_zero_or_pos (sg (n * 9 + i)) with z | z
            · exact z
            · exact absurd ⟨rfl, (k2.2 (by omega)).2⟩ c
          rw [z]
          have c2 : ¬ (v = 1 ∧ i < N ∧ qm_q W n i = true) := fun x => c ⟨rfl, x.2⟩
          rw [decide_eq_false c2]
          simp
      · have : ¬ i < N := by omega
        simp [i9, this]
    · rw [pk_un e, pk_un e, pk_un e]
      by_cases i9 : i < 9
      · rw [qm_sv_at i9, if_neg (fun x => e x.1)]
        exact k
      · simp only [i9, false_and] at k ⊢
        exact k
  · have k := h.2 n hn i hi
    rw [qm_sv_at hi]
    by_cases c : n = r ∧ i < N ∧ qm_q W r i = true
    · rw [if_pos c]
      exact ⟨by omega, fun _ => ⟨by omega, c.2.1, by rw [c.1]; exact c.2.2⟩⟩
    · rw [if_neg c]; exact k
section
variable {co nn tp : Int32} {y : qm_YT} {ph st ck en ov sd lo ls wt re : Nat → Int32}
variable {N W n : Nat}
theorem qm_yinq (h1 : 1 ≤ W) (h3 : W ≤ 3) {m : Nat} (hn : n < 9) (hm : m < 9) {post : Int32 → Prop} (t : qm_q W n m = true → post 1) (f : ¬ qm_q W n m = true → post 0) : wpY_inQuorum post (nI W, nn, tp, y.1, ph, st, ck, en, ov, sd, lo, ls, wt, y.2.1, y.2.2.1, y.2.2.2.1, y.2.2.2.2, re) (nI n) (nI m) := by
  have hw : ¬ nI W = 0 := nI_ne0 (by omega) (by omega)
  have d1 : nI n / nI W = nI (n / W) := pk_div (by omega) (by omega) (by omega)
  have d2 : nI m / nI W = nI (m / W) := pk_div (by omega) (by omega) (by omega)
  have r1 : nI n - nI n / nI W * nI W = nI (n % W) := pk_rem (by omega) (by omega) (by omega)
  have r2 : nI m - nI m / nI W * nI W = nI (m % W) := pk_rem (by omega) (by omega) (by omega)
  have b1 : n / W ≤ n := Nat.div_le_self ..
  have b2 : m / W ≤ m := Nat.div_le_self ..
  have b3 : n % W ≤ n := Nat.mod_le ..
  have b4 : m % W ≤ m := Nat.mod_le ..
  refine And.intro hw (And.intro hw ?_)
  by_cases c1 : n / W = m / W
  · exact br_t (by rw [d1, d2, c1]) (t (qm_q_iff.mpr (Or.inl c1)))
  · refine br_f (by rw [d1, d2, nI_eq (by omega) (by omega)]; exact c1) (And.intro hw (And.intro hw ?_))
    by_cases c2 : n % W = m % W
    · exact br_t (by rw [r1, r2, c2]) (t (qm_q_iff.mpr (Or.inr c2)))
    · refine br_f (by rw [r1, r2, nI_eq (by omega) (by omega)]; exact c2) (f (fun h => ?_))
      rcases qm_q_iff.mp h with h | h
      · exact c1 h
      · exact c2 h
theorem qm_yset1 (h1 : 1 ≤ W) (h3 : W ≤ 3) (hN : N ≤ 9) (hn : n < 9) {v : Nat} {sg : Nat → Nat} :
    ∀ (d i : Nat) (sd : Nat → Int32), i + d = N → qm_rep sd (qm_sv i W n v sg) → ∃ sd', qm_rep sd' (qm_sv N W n v sg) ∧ ∀ {tp : Int32} {y : qm_YT} {ph st ck en ov lo ls wt re : Nat → Int32} {post : SY → Prop}, post (nI W, nI N, tp, y.1, ph, st, ck, en, ov, sd', lo, ls, wt, y.2.1, y.2.2.1, y.2.2.2.1, y.2.2.2.2, re) → wY_setStandings_2 post (nI n) (nI v) (nI W) (nI N) tp y.1 (d + 1) (nI i) ph st ck en ov sd lo ls wt y.2.1 y.2.2.1 y.2.2.2.1 y.2.2.2.2 re
  | 0, i, sd, hd, hr => by
    have e : i = N := by omega
    subst e
    exact ⟨sd, hr, fun hp => br_t (nI_le (Nat.le_refl _) (by omega)) hp⟩
  | d + 1, i, sd, hd, hr => by
    have nle : ¬ nI N ≤ nI i := nI_ge (by omega) (by omega)
    by_cases c : qm_q W n i = true
    · have ei : nI n * 9 + nI i = nI (n * 9 + i) := qm_idx
      have hi : vp_in (nI n * 9 + nI i) 81 := by rw [ei]; exact vp_in_nI (by omega) (by decide)
      have hci : (nI n * 9 + nI i).toNatClampNeg = n * 9 + i := by rw [ei]; exact nI_clamp (by omega)
      obtain ⟨sd', r, w⟩ := qm_yset1 h1 h3 hN hn d (i + 1) (upd sd (n * 9 + i) (nI v)) (by omega) (by rw [qm_sv1 (by omega) c]; exact qm_rep_up hr _ _)
      exact ⟨sd', r, fun hp => br_f nle (qm_yinq h1 h3 hn (by omega) (fun _ => br_f (by decide) (And.intro hi (nm_r (e' := upd sd (n * 9 + i) (nI v)) (by rw [hci]) (nm_r (nI_1 _) (w hp))))) (fun z => absurd c z))⟩
    · obtain ⟨sd', r, w⟩ := qm_yset1 h1 h3 hN hn d (i + 1) sd (by omega) (by rw [qm_sv2 c]; exact hr)
      exact ⟨sd', r, fun hp => br_f nle (qm_yinq h1 h3 hn (by omega) (fun z => absurd z c) (fun _ => br_t rfl (nm_r (nI_1 _) (w hp))))⟩
theorem qm_yset (h1 : 1 ≤ W) (h3 : W ≤ 3) (hN : N ≤ 9) (hn : n < 9) (v : Nat) {sg : Nat → Nat} (hr : qm_rep sd sg) :
    ∃ sd', qm_rep sd' (qm_sv N W n v sg) ∧ ∀ {tp : Int32} {y : qm_YT} {ph st ck en ov lo ls wt re : Nat → Int32} {post : SY → Prop}, post (nI W, nI N, tp, y.1, ph, st, ck, en, ov, sd', lo, ls, wt, y.2.1, y.2.2.1, y.2.2.2.1, y.2.2.2.2, re) → wpY_setStandings post (nI W, nI N, tp, y.1, ph, st, ck, en, ov, sd, lo, ls, wt, y.2.1, y.2.2.1, y.2.2.2.1, y.2.2.2.2, re) (nI n) (nI v) := by
  obtain ⟨sd', r, w⟩ := qm_yset1 h1 h3 hN hn (v := v) (sg := sg) N 0 sd (by omega) (by rw [qm_sv0]; exact hr)
  exact ⟨sd', r, fun hp => ⟨_, w hp⟩⟩
theorem qm_ysome1 (h1 : 1 ≤ W) (h3 : W ≤ 3) (hN : N ≤ 9) (hn : n < 9) {v : Nat} (hv : v < 9) {sg : Nat → Nat} (hr : qm_rep sd sg) (hs3 : ∀ a, a < 9 → sg (n * 9 + a) ≤ 3) {post : Int32 → Prop}
    (t : (∃ m, m < N ∧ qm_q W n m = true ∧ sg (n * 9 + m) = v) → post 1) (f : (∀ m, m < N → qm_q W n m = true → sg (n * 9 + m) ≠ v) → post 0) :
    ∀ d i : Nat, i + d = N → (∀ m, m < i → qm_q W n m = true → sg (n * 9 + m) ≠ v) → wY_some_2 post (nI n) (nI v) (nI W) (nI N) tp y.1 ph st ck en ov sd lo ls wt y.2.1 y.2.2.1 y.2.2.2.1 y.2.2.2.2 re (d + 1) (nI i)
  | 0, i, hd, hb => by
    have e : i = N := by omega
    subst e
    exact br_t (nI_le (Nat.le_refl _) (by omega)) (f hb)
  | d + 1, i, hd, hb => by
    have nle : ¬ nI N ≤ nI i := nI_ge (by omega) (by omega)
    have ei : nI n * 9 + nI i = nI (n * 9 + i) := qm_idx
    have hi : vp_in (nI n * 9 + nI i) 81 := by rw [ei]; exact vp_in_nI (by omega) (by decide)
    have hci : (nI n * 9 + nI i).toNatClampNeg = n * 9 + i := by rw [ei]; exact nI_clamp (by omega)
    have s3 := hs3 i (by omega)
    refine br_f nle (qm_yinq h1 h3 hn (by omega) (fun c => br_f (by decide) (And.intro hi ?_)) (fun c => br_t rfl (nm_r (nI_1 _) (qm_ysome1 h1 h3 hN hn hv hr hs3 t f d (i + 1) (by omega) ?_))))
    · by_cases e : sg (n * 9 + i) = v
      · exact br_t (by rw [hci, hr, e]) (t ⟨i, by omega, c, e⟩)
      · refine br_f (by rw [hci, hr, nI_eq (by omega) (by omega)]; exact e) (nm_r (nI_1 _) (qm_ysome1 h1 h3 hN hn hv hr hs3 t f d (i + 1) (by omega) ?_))
        intro m hm hq
        by_cases em : m = i
        · rw [em]; exact e
        · exact hb m (by omega) hq
    · intro m hm hq
      by_cases em : m = i
      · rw [em] at hq; exact absurd hq c
      · exact hb m (by omega) hq
theorem qm_ysome (h1 : 1 ≤ W) (h3 : W ≤ 3) (hN : N ≤ 9) (hn : n < 9) {v : Nat} (hv : v < 9) {sg : Nat → Nat} (hr : qm_rep sd sg) (hs3 : ∀ a, a < 9 → sg (n * 9 + a) ≤ 3) {post : Int32 → Prop}
    (t : (∃ m, m < N ∧ qm_q W n m = true ∧ sg (n * 9 + m) = v) → post 1) (f : (∀ m, m < N → qm_q W n m = true → sg (n * 9 + m) ≠ v) → post 0) :
    wpY_some post (nI W, nI N, tp, y.1, ph, st, ck, en, ov, sd, lo, ls, wt, y.2.1, y.2.2.1, y.2.2.2.1, y.2.2.2.2, re) (nI n) (nI v) := ⟨_, qm_ysome1 h1 h3 hN hn hv hr hs3 t f N 0 (by omega) (fun m hm => by omega)⟩
theorem qm_older {s t m : Nat} (hs : s < 65536) (ht : t < 65536) (hn : n < 16) (hm : m < 16) {post : Int32 → Prop} (a : 16 * s + n < 16 * t + m → post 1) (b : ¬ 16 * s + n < 16 * t + m → post 0) : wpY_older post (co, nn, tp, y.1, ph, st, ck, en, ov, sd, lo, ls, wt, y.2.1, y.2.2.1, y.2.2.2.1, y.2.2.2.2, re) (nI s) (nI n) (nI t) (nI m) := by
  by_cases c1 : s < t
  · exact br_t (nI_lt c1 (by omega)) (a (by omega))
  · refine br_f (nI_nlt (by omega) (by omega)) ?_
    by_cases c2 : s = t
    · refine br_t (by rw [c2]) ?_
      by_cases c3 : m ≤ n
      · exact br_t (nI_le c3 (by omega)) (b (by omega))
      · exact br_f (nI_ge (by omega) (by omega)) (a (by omega))
    · exact br_f (by rw [nI_eq (by omega) (by omega)]; exact c2) (b (by omega))
end
end
section
/-! sends to many; the oldest entry -/
def qm_sa (Q : List qm_M) (P : Nat → Bool) (k f s : Nat) : Nat → List qm_M
  | 0 => Q
  | i + 1 => if P i = true then qm_snd (qm_sa Q P k f s i) (k, f, i, s) else qm_sa Q P k f s i
theorem qm_sa_congr {Q : List qm_M} {P R : Nat → Bool} {k f s : Nat} : ∀ {i : Nat}, (∀ j, j < i → P j = R j) → qm_sa Q P k f s i = qm_sa Q R k f s i
  | 0, _ => rfl
  | i + 1, h => by
    simp only [qm_sa]
    rw [h i (by omega), qm_sa_congr (fun j hj => h j (by omega))]
def qm_OK (N W : Nat) (m : qm_M) : Prop := 1 ≤ m.1 ∧ m.1 ≤ 6 ∧ m.2.1 < N ∧ m.2.2.1 < N ∧ qm_q W m.2.1 m.2.2.1 = true ∧ 1 ≤ m.2.2.2 ∧ m.2.2.2 ≤ 999
def qm_QO (N W : Nat) (Q : List qm_M) : Prop := ∀ m, m ∈ Q → qm_OK N W m
theorem qm_QO_snd {N W : Nat} {Q : List qm_M} {m : qm_M} (h : qm_QO N W Q) (hm : qm_OK N W m) : qm_QO N W (qm_snd Q m) := by
  intro x hx
  unfold qm_snd at hx
  split at hx
  · rcases List.mem_append.mp hx with hx | hx
    · exact h x hx
    · rw [List.mem_singleton.mp hx]; exact hm
  · exact h x hx
theorem qm_QO_sa {N W : Nat} {Q : List qm_M} {P : Nat → Bool} {k f s : Nat} (h : qm_QO N W Q) : ∀ {i : Nat}, (∀ j, j < i → P j = true → qm_OK N W (k, f, j, s)) → qm_QO N W (qm_sa Q P k f s i)
  | 0, _ => h
  | i + 1, hP => by
    simp only [qm_sa]
    split
    · rename_i c
      exact qm_QO_snd (qm_QO_sa h (fun j hj => hP j (by omega))) (hP i (by omega) c)
    · exact qm_QO_sa h (fun j hj => hP j (by omega))
section
variable {p : qm_PT}
theorem qm_xall1 {N k f s : Nat} {x3 : Int32} {P : Nat → Bool} {Q : List qm_M} (hN : N ≤ 9) (hf : f < 9) (hP : ∀ i, i < N → bt x3 i = P i) :
    ∀ (d i : Nat) (p : qm_PT), i + d = N → qm_PX (qm_sa Q P k f s i) p → ∃ p', qm_PX (qm_sa Q P k f s N) p' ∧ ∀ {tp wn : Int32} {qb ph st ck hb rb lb en ov hk lk ll lw : Nat → Int32} {post : SX → Prop}, post (nI N, tp, wn, p'.1, p'.2.1, p'.2.2.1, p'.2.2.2.1, p'.2.2.2.2.1, qb, ph, st, ck, hb, rb, lb, en, ov, hk, lk, ll, lw, p'.2.2.2.2.2.1, p'.2.2.2.2.2.2.1, p'.2.2.2.2.2.2.2.1, p'.2.2.2.2.2.2.2.2.1, p'.2.2.2.2.2.2.2.2.2.1, p'.2.2.2.2.2.2.2.2.2.2.1, p'.2.2.2.2.2.2.2.2.2.2.2.1, p'.2.2.2.2.2.2.2.2.2.2.2.2.1, p'.2.2.2.2.2.2.2.2.2.2.2.2.2.1, p'.2.2.2.2.2.2.2.2.2.2.2.2.2.2) → wX_sendToAll_3 post (nI k) (nI f) x3 (nI s) (d + 1) (nI i) (nI N) tp wn p.1 p.2.1 p.2.2.1 p.2.2.2.1 p.2.2.2.2.1 qb ph st ck hb rb lb en ov hk lk ll lw p.2.2.2.2.2.1 p.2.2.2.2.2.2.1 p.2.2.2.2.2.2.2.1 p.2.2.2.2.2.2.2.2.1 p.2.2.2.2.2.2.2.2.2.1 p.2.2.2.2.2.2.2.2.2.2.1 p.2.2.2.2.2.2.2.2.2.2.2.1 p.2.2.2.2.2.2.2.2.2.2.2.2.1 p.2.2.2.2.2.2.2.2.2.2.2.2.2.1 p.2.2.2.2.2.2.2.2.2.2.2.2.2.2
  | 0, i, p, hd, h => by
    have e : i = N := by omega
    subst e
    exact ⟨p, h, fun hp => br_t (nI_le (Nat.le_refl _) (by omega)) hp⟩
  | d + 1, i, p, hd, h => by
    have nle : ¬ nI N ≤ nI i := nI_ge (by omega) (by omega)
    by_cases c : P i = true
    · obtain ⟨p1, h1, w1⟩ := qm_xsend h (k := k) (f := f) (t := i) (m := s) hf (by omega)
      obtain ⟨p', h', w'⟩ := qm_xall1 hN hf hP d (i + 1) p1 (by omega) (by simp only [qm_sa]; rw [if_pos c]; exact h1)
      refine ⟨p', h', fun hp => br_f nle (br_f ?_ (w1 (nm_r (nI_1 _) (w' hp))))⟩
      rw [qm_a0 (by omega), hP i (by omega), c]
      decide
    · obtain ⟨p', h', w'⟩ := qm_xall1 hN hf hP d (i + 1) p (by omega) (by simp only [qm_sa]; rw [if_neg c]; exact h)
      refine ⟨p', h', fun hp => br_f nle (br_t ?_ (nm_r (nI_1 _) (w' hp)))⟩
      rw [qm_a0 (by omega), hP i (by omega)]
      cases z : P i
      · rfl
      · exact absurd z c
theorem qm_xall {N k f s : Nat} {x3 : Int32} {P : Nat → Bool} {Q : List qm_M} (hN : N ≤ 9) (hf : f < 9) (hP : ∀ i, i < N → bt x3 i = P i) (h : qm_PX Q p) :
    ∃ p', qm_PX (qm_sa Q P k f s N) p' ∧ ∀ {tp wn : Int32} {qb ph st ck hb rb lb en ov hk lk ll lw : Nat → Int32} {post : SX → Prop}, post (nI N, tp, wn, p'.1, p'.2.1, p'.2.2.1, p'.2.2.2.1, p'.2.2.2.2.1, qb, ph, st, ck, hb, rb, lb, en, ov, hk, lk, ll, lw, p'.2.2.2.2.2.1, p'.2.2.2.2.2.2.1, p'.2.2.2.2.2.2.2.1, p'.2.2.2.2.2.2.2.2.1, p'.2.2.2.2.2.2.2.2.2.1, p'.2.2.2.2.2.2.2.2.2.2.1, p'.2.2.2.2.2.2.2.2.2.2.2.1, p'.2.2.2.2.2.2.2.2.2.2.2.2.1, p'.2.2.2.2.2.2.2.2.2.2.2.2.2.1, p'.2.2.2.2.2.2.2.2.2.2.2.2.2.2) → wpX_sendToAll post (nI N, tp, wn, p.1, p.2.1, p.2.2.1, p.2.2.2.1, p.2.2.2.2.1, qb, ph, st, ck, hb, rb, lb, en, ov, hk, lk, ll, lw, p.2.2.2.2.2.1, p.2.2.2.2.2.2.1, p.2.2.2.2.2.2.2.1, p.2.2.2.2.2.2.2.2.1, p.2.2.2.2.2.2.2.2.2.1, p.2.2.2.2.2.2.2.2.2.2.1, p.2.2.2.2.2.2.2.2.2.2.2.1, p.2.2.2.2.2.2.2.2.2.2.2.2.1, p.2.2.2.2.2.2.2.2.2.2.2.2.2.1, p.2.2.2.2.2.2.2.2.2.2.2.2.2.2) (nI k) (nI f) x3 (nI s) := by
  obtain ⟨p', h', w'⟩ := qm_xall1 (k := k) (s := s) (Q := Q) hN hf hP N 0 p (by omega) h
  exact ⟨p', h', fun hp => ⟨_, w' hp⟩⟩
end
section
variable {y : qm_YT} {st wt : Nat → Int32}
variable {N W : Nat}
theorem qm_yall1 {k f s : Nat} {Q : List qm_M} (h1 : 1 ≤ W) (h3 : W ≤ 3) (hN : N ≤ 9) (hf : f < 9) (hs : st f = nI s) :
    ∀ (d i : Nat) (y : qm_YT), i + d = N → qm_PY (qm_sa Q (qm_q W f) k f s i) y → ∃ y', qm_PY (qm_sa Q (qm_q W f) k f s N) y' ∧ ∀ {tp : Int32} {ph ck en ov sd lo ls wt re : Nat → Int32} {post : SY → Prop}, post (nI W, nI N, tp, y'.1, ph, st, ck, en, ov, sd, lo, ls, wt, y'.2.1, y'.2.2.1, y'.2.2.2.1, y'.2.2.2.2, re) → wY_sendToQuorum_2 post (nI k) (nI f) (d + 1) (nI i) (nI W) (nI N) tp y.1 ph st ck en ov sd lo ls wt y.2.1 y.2.2.1 y.2.2.2.1 y.2.2.2.2 re
  | 0, i, y, hd, h => by
    have e : i = N := by omega
    subst e
    exact ⟨y, h, fun hp => br_t (nI_le (Nat.le_refl _) (by omega)) hp⟩
  | d + 1, i, y, hd, h => by
    have nle : ¬ nI N ≤ nI i := nI_ge (by omega) (by omega)
    by_cases c : qm_q W f i = true
    · have hif : vp_in (nI f) 9 := vp_in_nI hf (by decide)
      have hcf : (nI f).toNatClampNeg = f := nI_clamp (by omega)
      obtain ⟨y1, hy1, w1⟩ := qm_ysend h k f i s
      obtain ⟨y', h', w'⟩ := qm_yall1 h1 h3 hN hf hs d (i + 1) y1 (by omega) (by simp only [qm_sa]; rw [if_pos c]; exact hy1)
      refine ⟨y', h', fun hp => br_f nle (qm_yinq h1 h3 hf (by omega) (fun _ => br_f (by decide) (And.intro hif ?_)) (fun z => absurd c z))⟩
      rw [hcf, hs]
      exact w1 (nm_r (nI_1 _) (w' hp))
    · obtain ⟨y', h', w'⟩ := qm_yall1 h1 h3 hN hf hs d (i + 1) y (by omega) (by simp only [qm_sa]; rw [if_neg c]; exact h)
      exact ⟨y', h', fun hp => br_f nle (qm_yinq h1 h3 hf (by omega) (fun z => absurd z c) (fun _ => br_t rfl (nm_r (nI_1 _) (w' hp))))⟩
theorem qm_yall {k f s : Nat} {Q : List qm_M} (h1 : 1 ≤ W) (h3 : W ≤ 3) (hN : N ≤ 9) (hf : f < 9) (hs : st f = nI s) (h : qm_PY Q y) :
    ∃ y', qm_PY (qm_sa Q (qm_q W f) k f s N) y' ∧ ∀ {tp : Int32} {ph ck en ov sd lo ls wt re : Nat → Int32} {post : SY → Prop}, post (nI W, nI N, tp, y'.1, ph, st, ck, en, ov, sd, lo, ls, wt, y'.2.1, y'.2.2.1, y'.2.2.2.1, y'.2.2.2.2, re) → wpY_sendToQuorum post (nI W, nI N, tp, y.1, ph, st, ck, en, ov, sd, lo, ls, wt, y.2.1, y.2.2.1, y.2.2.2.1, y.2.2.2.2, re) (nI k) (nI f) := by
  obtain ⟨y', h', w'⟩ := qm_yall1 (k := k) (s := s) (Q := Q) h1 h3 hN hf hs N 0 y (by omega) h
  exact ⟨y', h', fun hp => ⟨_, w' hp⟩⟩
/-- what oldest answers over the nodes below i -/
def qm_mn (w : Nat → Nat) (a i : Nat) (r : Int32) : Prop := (r = -1 ∧ ∀ n, n < i → w (a * 9 + n) = 0) ∨ ∃ b, b < i ∧ r = nI b ∧ 1 ≤ w (a * 9 + b) ∧ ∀ n, n < i → 1 ≤ w (a * 9 + n) → 16 * w (a * 9 + b) + b ≤ 16 * w (a * 9 + n) + n
theorem qm_yold1 {w : Nat → Nat} {a : Nat} (hN : N ≤ 9) (ha : a < 9) (hr : qm_rep wt w) (hw : ∀ j, w j ≤ 999) :
    ∀ (d i : Nat) (r : Int32), i + d = N → qm_mn w a i r → ∃ r', qm_mn w a N r' ∧ ∀ {co tp : Int32} {y : qm_YT} {ph st ck en ov sd lo ls re : Nat → Int32} {post : Int32 → Prop}, post r' → wY_oldest_4 post (nI a) co (nI N) tp y.1 ph st ck en ov sd lo ls wt y.2.1 y.2.2.1 y.2.2.2.1 y.2.2.2.2 re (d + 1) r (nI i)
  | 0, i, r, hd, h => by
    have e : i = N := by omega
    subst e
    exact ⟨r, h, fun hp => br_t (nI_le (Nat.le_refl _) (by omega)) hp⟩
  | d + 1, i, r, hd, h => by
    have nle : ¬ nI N ≤ nI i := nI_ge (by omega) (by omega)
    have ei : nI a * 9 + nI i = nI (a * 9 + i) := qm_idx
    have hi : vp_in (nI a * 9 + nI i) 81 := by rw [ei]; exact vp_in_nI (by omega) (by decide)
    have hci : (nI a * 9 + nI i).toNatClampNeg = a * 9 + i := by rw [ei]; exact nI_clamp (by omega)
    have wi := hw (a * 9 + i)
    have rd : wt (nI a * 9 + nI i).toNatClampNeg = nI (w (a * 9 + i)) := by rw [hci]; exact hr _
    by_cases z : w (a * 9 + i) = 0
    · have h' : qm_mn w a (i + 1) r := by
        rcases h with ⟨e, h⟩ | ⟨b, hb, e, hb1, h⟩
        · exact Or.inl ⟨e, fun n hn => by
            by_cases en : n = i
            · rw [en]; exact z
            · exact h n (by omega)⟩
        · exact Or.inr ⟨b, by omega, e, hb1, fun n hn hn1 => by
            by_cases en : n = i
            · rw [en] at hn1; omega
            · exact h n (by omega) hn1⟩
      obtain ⟨r', h2, w'⟩ := qm_yold1 hN ha hr hw d (i + 1) r (by omega) h'
      exact ⟨r', h2, fun hp => br_f nle (And.intro hi (br_t (by rw [rd, z]; rfl) (nm_r (nI_1 _) (w' hp))))⟩
    · have nz : ¬ wt (nI a * 9 + nI i).toNatClampNeg = 0 := by rw [rd]; exact nI_ne0 (by omega) (by omega)
      rcases h with ⟨e, h⟩ | ⟨b, hb, e, hb1, h⟩
      · have h' : qm_mn w a (i + 1) (nI i) := Or.inr ⟨i, by omega, rfl, by omega, fun n hn hn1 => by
          by_cases en : n = i
          · rw [en]; exact Nat.le_refl _
          · have := h n (by omega); omega⟩
        obtain ⟨r', h2, w'⟩ := qm_yold1 hN ha hr hw d (i + 1) (nI i) (by omega) h'
        subst e
        exact ⟨r', h2, fun hp => br_f nle (And.intro hi (br_f nz (br_t qm_m1n (nm_r (nI_1 _) (w' hp)))))⟩
      · subst e
        have eb : nI a * 9 + nI b = nI (a * 9 + b) := qm_idx
        have hib : vp_in (nI a * 9 + nI b) 81 := by rw [eb]; exact vp_in_nI (by omega) (by decide)
        have hcb : (nI a * 9 + nI b).toNatClampNeg = a * 9 + b := by rw [eb]; exact nI_clamp (by omega)
        have rdb : wt (nI a * 9 + nI b).toNatClampNeg = nI (w (a * 9 + b)) := by rw [hcb]; exact hr _
        have wb := hw (a * 9 + b)
        have np : ¬ nI b < 0 := nI_pos (by omega)
        by_cases lt : 16 * w (a * 9 + i) + i < 16 * w (a * 9 + b) + b
        · have h' : qm_mn w a (i + 1) (nI i) := Or.inr ⟨i, by omega, rfl, by omega, fun n hn hn1 => by
            by_cases en : n = i
            · rw [en]; exact Nat.le_refl _
            · have := h n (by omega) hn1; omega⟩
          obtain ⟨r', h2, w'⟩ := qm_yold1 hN ha hr hw d (i + 1) (nI i) (by omega) h'
          refine ⟨r', h2, fun hp => br_f nle (And.intro hi (br_f nz (br_f np (And.intro hi (And.intro hib ?_)))))⟩
          rw [rd, rdb]
          exact qm_older (by omega) (by omega) (by omega) (by omega) (fun _ => br_f (by decide) (nm_r (nI_1 _) (w' hp))) (fun c => absurd lt c)
        · have h' : qm_mn w a (i + 1) (nI b) := Or.inr ⟨b, by omega, rfl, hb1, fun n hn hn1 => by
            by_cases en : n = i
            · rw [en]; omega
            · exact h n (by omega) hn1⟩
          obtain ⟨r', h2, w'⟩ := qm_yold1 hN ha hr hw d (i + 1) (nI b) (by omega) h'
          refine ⟨r', h2, fun hp => br_f nle (And.intro hi (br_f nz (br_f np (And.intro hi (And.intro hib ?_)))))⟩
          rw [rd, rdb]
          exact qm_older (by omega) (by omega) (by omega) (by omega) (fun c => absurd c lt) (fun _ => br_t rfl (nm_r (nI_1 _) (w' hp)))
theorem qm_yold {w : Nat → Nat} {a : Nat} (hN : N ≤ 9) (ha : a < 9) (hr : qm_rep wt w) (hw : ∀ j, w j ≤ 999) :
    ∃ r', qm_mn w a N r' ∧ ∀ {co tp : Int32} {y : qm_YT} {ph st ck en ov sd lo ls re : Nat → Int32} {post : Int32 → Prop}, post r' → wpY_oldest post (co, nI N, tp, y.1, ph, st, ck, en, ov, sd, lo, ls, wt, y.2.1, y.2.2.1, y.2.2.2.1, y.2.2.2.2, re) (nI a) := by
  obtain ⟨r', h2, w'⟩ := qm_yold1 hN ha hr hw N 0 (-1) (by omega) (Or.inl ⟨rfl, fun n hn => by omega⟩)
  exact ⟨r', h2, fun hp => ⟨_, w' hp⟩⟩
end
/-- the head of the line is the oldest entry -/
theorem qm_mn_nil {w : Nat → Nat} {a N : Nat} {r : Int32} (h : qm_ln w a []) (hN : N ≤ 9) (hm : qm_mn w a N r) : r = -1 := by
  rcases hm with ⟨e, _⟩ | ⟨b, hb, e, h1, _⟩
  · exact e
  · have := (h.2 (16 * w (a * 9 + b) + b)).mpr (by
      rw [show (16 * w (a * 9 + b) + b) % 16 = b from by omega, show (16 * w (a * 9 + b) + b) / 16 = w (a * 9 + b) from by omega]
      exact ⟨by omega, h1, rfl⟩)
    exact absurd this (by simp)
theorem qm_mn_cons {w : Nat → Nat} {a N k : Nat} {l : List Nat} {r : Int32} (h : qm_ln w a (k :: l)) (hN : N ≤ 9) (hs : ∀ n, n < 9 → w (a * 9 + n) ≠ 0 → n < N) (hm : qm_mn w a N r) : r = nI (k % 16) ∧ k % 16 < N ∧ w (a * 9 + k % 16) = k / 16 ∧ 1 ≤ k / 16 := by
  have hk := (h.2 k).mp List.mem_cons_self
  have hkN := hs (k % 16) hk.1 (by omega)
  refine ⟨?_, hkN, hk.2.2, hk.2.1⟩
  rcases hm with ⟨e, h0⟩ | ⟨b, hb, e, h1, hmin⟩
  · have := h0 (k % 16) hkN; omega
  · rw [e]
    apply congrArg nI
    have m1 := hmin (k % 16) hkN (by omega)
    have mem := (h.2 (16 * w (a * 9 + b) + b)).mpr (by
      rw [show (16 * w (a * 9 + b) + b) % 16 = b from by omega, show (16 * w (a * 9 + b) + b) / 16 = w (a * 9 + b) from by omega]
      exact ⟨by omega, h1, rfl⟩)
    rcases List.mem_cons.mp mem with e2 | m2
    · omega
    · have := (List.pairwise_cons.mp h.1).1 _ m2
      omega
end
section
/-! the relation -/
def qm_G (N W T : Nat) (qb : Nat → Int32) : Prop := 1 ≤ W ∧ W ≤ 3 ∧ N ≤ 9 ∧ T ≤ 999 ∧ qm_QB N W qb
def qm_R (sv cv : Nat → Nat) (wn : Int32) (ph st ck : Nat → Int32) : Prop := qm_rep st sv ∧ (∀ i, sv i ≤ 999) ∧ (∀ i, ph i ≠ 0 → 1 ≤ sv i) ∧ qm_rep ck cv ∧ (∀ i, cv i ≤ 999) ∧ ∀ m, m < 9 → bt wn m = decide (ph m = 1)
def qm_S (N W : Nat) (sg : Nat → Nat) (sd hb rb lb : Nat → Int32) : Prop := qm_rep sd sg ∧ qm_SB N W sg hb rb lb
def qm_H1 (N W a : Nat) (x y z : Int32) : Prop := (x = -1 ∧ y = -1 ∧ z = 0) ∨ ∃ n s, n < N ∧ 1 ≤ s ∧ s ≤ 999 ∧ qm_q W a n = true ∧ x = nI (16 * s + n) ∧ y = nI n ∧ z = nI s
def qm_H (N W : Nat) (hk lo ls : Nat → Int32) : Prop := ∀ a, a < 9 → qm_H1 N W a (hk a) (lo a) (ls a)
def qm_Wt (N W : Nat) (w : Nat → Nat) (wt lk ll lw : Nat → Int32) : Prop := qm_rep wt w ∧ qm_LX w lk ll lw ∧ ∀ a n, a < 9 → n < 9 → w (a * 9 + n) ≠ 0 → a < N ∧ n < N ∧ qm_q W a n = true
def qm_P (N W : Nat) (Q : List qm_M) (p : qm_PT) (y : qm_YT) : Prop := qm_PX Q p ∧ qm_PY Q y ∧ qm_QO N W Q
def qm_Rel (u : SX) (v : SY) : Prop := ∃ (N W T : Nat) (sv cv sg w : Nat → Nat) (Q : List qm_M) (wn : Int32) (p : qm_PT) (y : qm_YT) (qb ph st ck hb rb lb en ov hk lk ll lw sd lo ls wt re : Nat → Int32),
  u = (nI N, nI T, wn, p.1, p.2.1, p.2.2.1, p.2.2.2.1, p.2.2.2.2.1, qb, ph, st, ck, hb, rb, lb, en, ov, hk, lk, ll, lw, p.2.2.2.2.2.1, p.2.2.2.2.2.2.1, p.2.2.2.2.2.2.2.1, p.2.2.2.2.2.2.2.2.1, p.2.2.2.2.2.2.2.2.2.1, p.2.2.2.2.2.2.2.2.2.2.1, p.2.2.2.2.2.2.2.2.2.2.2.1, p.2.2.2.2.2.2.2.2.2.2.2.2.1, p.2.2.2.2.2.2.2.2.2.2.2.2.2.1, p.2.2.2.2.2.2.2.2.2.2.2.2.2.2) ∧ v = (nI W, nI N, nI T, y.1, ph, st, ck, en, ov, sd, lo, ls, wt, y.2.1, y.2.2.1, y.2.2.2.1, y.2.2.2.2, re) ∧ qm_G N W T qb ∧ qm_R sv cv wn ph st ck ∧ qm_S N W sg sd hb rb lb ∧ qm_H N W hk lo ls ∧ qm_Wt N W w wt lk ll lw ∧ qm_P N W Q p y
theorem qm_mk {N W T : Nat} {sv cv sg w : Nat → Nat} {Q : List qm_M} {wn : Int32} {p : qm_PT} {y : qm_YT} {qb ph st ck hb rb lb en ov hk lk ll lw sd lo ls wt re : Nat → Int32}
    (hG : qm_G N W T qb) (hR : qm_R sv cv wn ph st ck) (hS : qm_S N W sg sd hb rb lb) (hH : qm_H N W hk lo ls) (hW : qm_Wt N W w wt lk ll lw) (hP : qm_P N W Q p y) : qm_Rel (nI N, nI T, wn, p.1, p.2.1, p.2.2.1, p.2.2.2.1, p.2.2.2.2.1, qb, ph, st, ck, hb, rb, lb, en, ov, hk, lk, ll, lw, p.2.2.2.2.2.1, p.2.2.2.2.2.2.1, p.2.2.2.2.2.2.2.1, p.2.2.2.2.2.2.2.2.1, p.2.2.2.2.2.2.2.2.2.1, p.2.2.2.2.2.2.2.2.2.2.1, p.2.2.2.2.2.2.2.2.2.2.2.1, p.2.2.2.2.2.2.2.2.2.2.2.2.1, p.2.2.2.2.2.2.2.2.2.2.2.2.2.1, p.2.2.2.2.2.2.2.2.2.2.2.2.2.2) (nI W, nI N, nI T, y.1, ph, st, ck, en, ov, sd, lo, ls, wt, y.2.1, y.2.2.1, y.2.2.2.1, y.2.2.2.2, re) :=
  ⟨N, W, T, sv, cv, sg, w, Q, wn, p, y, qb, ph, st, ck, hb, rb, lb, en, ov, hk, lk, ll, lw, sd, lo, ls, wt, re, rfl, rfl, hG, hR, hS, hH, hW, hP⟩
theorem qm_el {P : SX → SY → Prop} (h : ∀ (N W T : Nat) (sv cv sg w : Nat → Nat) (Q : List qm_M) (wn : Int32) (p : qm_PT) (y : qm_YT) (qb ph st ck hb rb lb en ov hk lk ll lw sd lo ls wt re : Nat → Int32), qm_G N W T qb → qm_R sv cv wn ph st ck → qm_S N W sg sd hb rb lb → qm_H N W hk lo ls → qm_Wt N W w wt lk ll lw → qm_P N W Q p y → P (nI N, nI T, wn, p.1, p.2.1, p.2.2.1, p.2.2.2.1, p.2.2.2.2.1, qb, ph, st, ck, hb, rb, lb, en, ov, hk, lk, ll, lw, p.2.2.2.2.2.1, p.2.2.2.2.2.2.1, p.2.2.2.2.2.2.2.1, p.2.2.2.2.2.2.2.2.1, p.2.2.2.2.2.2.2.2.2.1, p.2.2.2.2.2.2.2.2.2.2.1, p.2.2.2.2.2.2.2.2.2.2.2.1, p.2.2.2.2.2.2.2.2.2.2.2.2.1, p.2.2.2.2.2.2.2.2.2.2.2.2.2.1, p.2.2.2.2.2.2.2.2.2.2.2.2.2.2) (nI W, nI N, nI T, y.1, ph, st, ck, en, ov, sd, lo, ls, wt, y.2.1, y.2.2.1, y.2.2.2.1, y.2.2.2.2, re)) {u : SX} {v : SY} (I : qm_Rel u v) : P u v :=
  Exists.elim I fun N I => Exists.elim I fun W I => Exists.elim I fun T I => Exists.elim I fun sv I => Exists.elim I fun cv I => Exists.elim I fun sg I => Exists.elim I fun w I => Exists.elim I fun Q I => Exists.elim I fun wn I => Exists.elim I fun p I => Exists.elim I fun y I => Exists.elim I fun qb I => Exists.elim I fun ph I => Exists.elim I fun st I => Exists.elim I fun ck I => Exists.elim I fun hb I => Exists.elim I fun rb I => Exists.elim I fun lb I => Exists.elim I fun en I => Exists.elim I fun ov I => Exists.elim I fun hk I => Exists.elim I fun lk I => Exists.elim I fun ll I => Exists.elim I fun lw I => Exists.elim I fun sd I => Exists.elim I fun lo I => Exists.elim I fun ls I => Exists.elim I fun wt I => Exists.elim I fun re I => by
    rw [I.1, I.2.1]
    exact h N W T sv cv sg w Q wn p y qb ph st ck hb rb lb en ov hk lk ll lw sd lo ls wt re I.2.2.1 I.2.2.2.1 I.2.2.2.2.1 I.2.2.2.2.2.1 I.2.2.2.2.2.2.1 I.2.2.2.2.2.2.2
/-- one answer, two related ends -/
def qm_BB (WX : (Int32 → SX → Prop) → Prop) (WY : (Int32 → SY → Prop) → Prop) : Prop := ∃ r u' v', qm_Rel u' v' ∧ (∀ post : Int32 → SX → Prop, post r u' → WX post) ∧ ∀ post : Int32 → SY → Prop, post r v' → WY post
theorem qm_OKi {N W k f t m : Nat} (h1 : 1 ≤ k) (h6 : k ≤ 6) (hf : f < N) (ht : t < N) (hq : qm_q W f t = true) (hm : 1 ≤ m) (hm9 : m ≤ 999) : qm_OK N W (k, f, t, m) := ⟨h1, h6, hf, ht, hq, hm, hm9⟩
theorem qm_send2 {N W : Nat} {Q : List qm_M} {p : qm_PT} {y : qm_YT} (hN : N ≤ 9) (hP : qm_P N W Q p y) (k f t m : Nat) (ho : qm_OK N W (k, f, t, m)) :
    ∃ p' y', qm_P N W (qm_snd Q (k, f, t, m)) p' y' ∧ (∀ {nn tp wn : Int32} {qb ph st ck hb rb lb en ov hk lk ll lw : Nat → Int32} {x z : Int32} {post : SX → Prop}, x = nI t → z = nI m → post (nn, tp, wn, p'.1, p'.2.1, p'.2.2.1, p'.2.2.2.1, p'.2.2.2.2.1, qb, ph, st, ck, hb, rb, lb, en, ov, hk, lk, ll, lw, p'.2.2.2.2.2.1, p'.2.2.2.2.2.2.1, p'.2.2.2.2.2.2.2.1, p'.2.2.2.2.2.2.2.2.1, p'.2.2.2.2.2.2.2.2.2.1, p'.2.2.2.2.2.2.2.2.2.2.1, p'.2.2.2.2.2.2.2.2.2.2.2.1, p'.2.2.2.2.2.2.2.2.2.2.2.2.1, p'.2.2.2.2.2.2.2.2.2.2.2.2.2.1, p'.2.2.2.2.2.2.2.2.2.2.2.2.2.2) → wpX_send post (nn, tp, wn, p.1, p.2.1, p.2.2.1, p.2.2.2.1, p.2.2.2.2.1, qb, ph, st, ck, hb, rb, lb, en, ov, hk, lk, ll, lw, p.2.2.2.2.2.1, p.2.2.2.2.2.2.1, p.2.2.2.2.2.2.2.1, p.2.2.2.2.2.2.2.2.1, p.2.2.2.2.2.2.2.2.2.1, p.2.2.2.2.2.2.2.2.2.2.1, p.2.2.2.2.2.2.2.2.2.2.2.1, p.2.2.2.2.2.2.2.2.2.2.2.2.1, p.2.2.2.2.2.2.2.2.2.2.2.2.2.1, p.2.2.2.2.2.2.2.2.2.2.2.2.2.2) (nI k) (nI f) x z) ∧
      ∀ {co nn tp : Int32} {ph st ck en ov sd lo ls wt re : Nat → Int32} {x z : Int32} {post : SY → Prop}, x = nI t → z = nI m → post (co, nn, tp, y'.1, ph, st, ck, en, ov, sd, lo, ls, wt, y'.2.1, y'.2.2.1, y'.2.2.2.1, y'.2.2.2.2, re) → wpY_send post (co, nn, tp, y.1, ph, st, ck, en, ov, sd, lo, ls, wt, y.2.1, y.2.2.1, y.2.2.2.1, y.2.2.2.2, re) (nI k) (nI f) x z := by
  obtain ⟨p', h1, w1⟩ := qm_xsend hP.1 (k := k) (f := f) (t := t) (m := m) (Nat.lt_of_lt_of_le ho.2.2.1 hN) (Nat.lt_of_lt_of_le ho.2.2.2.1 hN)
  obtain ⟨y', h2, w2⟩ := qm_ysend hP.2.1 k f t m
  refine ⟨p', y', ⟨h1, h2, qm_QO_snd hP.2.2 ho⟩, fun ex ez hp => ?_, fun ex ez hp => ?_⟩
  · subst ex; subst ez; exact w1 hp
  · subst ex; subst ez; exact w2 hp
section
variable {nn tp wn : Int32} {p : qm_PT} {qb ph st ck hb rb lb en ov hk lk ll lw : Nat → Int32}
theorem qm_xkey {s n : Nat} {x z : Int32} (hs : s ≤ 999) (hn : n < 16) (ex : x = nI s) (ez : z = nI n) {post : Int32 → Prop} (h : post (nI (16 * s + n))) : wpX_key post (nn, tp, wn, p.1, p.2.1, p.2.2.1, p.2.2.2.1, p.2.2.2.2.1, qb, ph, st, ck, hb, rb, lb, en, ov, hk, lk, ll, lw, p.2.2.2.2.2.1, p.2.2.2.2.2.2.1, p.2.2.2.2.2.2.2.1, p.2.2.2.2.2.2.2.2.1, p.2.2.2.2.2.2.2.2.2.1, p.2.2.2.2.2.2.2.2.2.2.1, p.2.2.2.2.2.2.2.2.2.2.2.1, p.2.2.2.2.2.2.2.2.2.2.2.2.1, p.2.2.2.2.2.2.2.2.2.2.2.2.2.1, p.2.2.2.2.2.2.2.2.2.2.2.2.2.2) x z := by
  subst ex
  subst ez
  show post _
  rw [qm_key (by omega) hn]
  exact h
end
section
variable {co nn tp : Int32} {y : qm_YT} {ph st ck en ov sd lo ls wt re : Nat → Int32}
theorem qm_olderE {s n t m : Nat} {x1 x2 x3 x4 : Int32} (hs : s ≤ 999) (ht : t ≤ 999) (hn : n < 9) (hm : m < 9) (e1 : x1 = nI s) (e2 : x2 = nI n) (e3 : x3 = nI t) (e4 : x4 = nI m) {post : Int32 → Prop} (a : 16 * s + n < 16 * t + m → post 1) (b : ¬ 16 * s + n < 16 * t + m → post 0) : wpY_older post (co, nn, tp, y.1, ph, st, ck, en, ov, sd, lo, ls, wt, y.2.1, y.2.2.1, y.2.2.2.1, y.2.2.2.2, re) x1 x2 x3 x4 := by
  subst e1 e2 e3 e4
  exact qm_older (by omega) (by omega) (by omega) (by omega) a b
end
theorem qm_H_up {N W a : Nat} {hk lo ls : Nat → Int32} {x y z : Int32} (h : qm_H N W hk lo ls) (k : qm_H1 N W a x y z) : qm_H N W (upd hk a x) (upd lo a y) (upd ls a z) := by
  intro b hb
  by_cases e : b = a
  · subst e
    rw [pk_us, pk_us, pk_us]
    exact k
  · rw [pk_un e, pk_un e, pk_un e]
    exact h b hb
theorem qm_upup {f : Nat → Int32} {j : Nat} {x y : Int32} : upd (upd f j x) j y = upd f j y := by
  funext i
  by_cases e : i = j
  · subst e; rw [pk_us, pk_us]
  · rw [pk_un e, pk_un e, pk_un e]
theorem qm_ln_0 {w : Nat → Nat} {N W a n s : Nat} (h : ∀ a n, a < 9 → n < 9 → w (a * 9 + n) ≠ 0 → a < N ∧ n < N ∧ qm_q W a n = true) (ha : a < N) (hn : n < N) (hN : N ≤ 9) (hq : s ≠ 0 → qm_q W a n = true) : ∀ b m, b < 9 → m < 9 → qm_up w (a * 9 + n) s (b * 9 + m) ≠ 0 → b < N ∧ m < N ∧ qm_q W b m = true := by
  intro b m hb hm hz
  by_cases e : b = a ∧ m = n
  · rw [e.1, e.2, qm_us] at hz
    rw [e.1, e.2]
    exact ⟨ha, hn, hq hz⟩
  · rw [qm_un9 (by omega) hm (by omega)] at hz
    exact h b m hb hm hz
end
section
/-! the arbiter: grantOldest, onRequest, onRelinquish, onRelease -/
section
variable {N W T : Nat} {sv cv sg w : Nat → Nat} {Q : List qm_M} {wn : Int32} {p : qm_PT} {y : qm_YT} {qb ph st ck hb rb lb en ov hk lk ll lw sd lo ls wt re : Nat → Int32}
variable {a r s : Nat}
theorem qm_grant (hG : qm_G N W T qb) (hR : qm_R sv cv wn ph st ck) (hS : qm_S N W sg sd hb rb lb) (hH : qm_H N W hk lo ls) (hW : qm_Wt N W w wt lk ll lw) (hP : qm_P N W Q p y) (ha : a < N) :
    ∃ u' v', qm_Rel u' v' ∧ (∀ post : SX → Prop, post u' → wpX_grantOldest post (nI N, nI T, wn, p.1, p.2.1, p.2.2.1, p.2.2.2.1, p.2.2.2.2.1, qb, ph, st, ck, hb, rb, lb, en, ov, hk, lk, ll, lw, p.2.2.2.2.2.1, p.2.2.2.2.2.2.1, p.2.2.2.2.2.2.2.1, p.2.2.2.2.2.2.2.2.1, p.2.2.2.2.2.2.2.2.2.1, p.2.2.2.2.2.2.2.2.2.2.1, p.2.2.2.2.2.2.2.2.2.2.2.1, p.2.2.2.2.2.2.2.2.2.2.2.2.1, p.2.2.2.2.2.2.2.2.2.2.2.2.2.1, p.2.2.2.2.2.2.2.2.2.2.2.2.2.2) (nI a)) ∧ ∀ (x1 : Int32) (post : Int32 → SY → Prop), post x1 v' → wY_atReturn_42 post x1 (nI a) (nI W) (nI N) (nI T) y.1 ph st ck en ov sd lo ls wt y.2.1 y.2.2.1 y.2.2.2.1 y.2.2.2.2 re := by
  obtain ⟨hW1, hW2, hW3⟩ := hW
  have hN := hG.2.2.1
  have ha9 : a < 9 := by omega
  have hia : vp_in (nI a) 9 := vp_in_nI ha9 (by decide)
  have hca : (nI a).toNatClampNeg = a := nI_clamp (by omega)
  obtain ⟨l, h1, h2, h3, h4⟩ := hW2.2 a ha9
  obtain ⟨ro, hro, wold⟩ := qm_yold (N := N) (w := w) (a := a) hN ha9 hW1 hW2.1
  cases l with
  | nil =>
    have ero := qm_mn_nil h1 hN hro
    subst ero
    have hl : ¬ (0 : Int32) < ll (nI a).toNatClampNeg := by rw [hca, h2]; decide
    refine ⟨(nI N, nI T, wn, p.1, p.2.1, p.2.2.1, p.2.2.2.1, p.2.2.2.2.1, qb, ph, st, ck, hb, rb, lb, en, ov, upd hk a (-1), lk, ll, lw, p.2.2.2.2.2.1, p.2.2.2.2.2.2.1, p.2.2.2.2.2.2.2.1, p.2.2.2.2.2.2.2.2.1, p.2.2.2.2.2.2.2.2.2.1, p.2.2.2.2.2.2.2.2.2.2.1, p.2.2.2.2.2.2.2.2.2.2.2.1, p.2.2.2.2.2.2.2.2.2.2.2.2.1, p.2.2.2.2.2.2.2.2.2.2.2.2.2.1, p.2.2.2.2.2.2.2.2.2.2.2.2.2.2), (nI W, nI N, nI T, y.1, ph, st, ck, en, ov, sd, upd lo a (-1), upd ls a 0, wt, y.2.1, y.2.2.1, y.2.2.2.1, y.2.2.2.2, re), qm_mk hG hR hS (qm_H_up hH (Or.inl ⟨rfl, rfl, rfl⟩)) ⟨hW1, hW2, hW3⟩ hP, fun post hp => ?_, fun x1 post hp => ?_⟩
    · exact And.intro hia (br_f hl (And.intro hia (nm_r (e' := upd hk a (-1)) (by rw [hca]) hp)))
    · exact And.intro hia (nm_r (e' := upd lo a (-1)) (by rw [hca]) (And.intro hia (nm_r (e' := upd ls a 0) (by rw [hca]) (wold (br_t qm_m1n hp)))))
  | cons k0 l' =>
    obtain ⟨ero, hkN, hkw, hk1⟩ := qm_mn_cons h1 hN (fun n hn hz => (hW3 a n ha9 hn hz).2.1) hro
    subst ero
    have hq : qm_q W a (k0 % 16) = true := (hW3 a (k0 % 16) ha9 (by omega) (by omega)).2.2
    have hk999 : k0 / 16 ≤ 999 := by rw [← hkw]; exact hW2.1 _
    have hl : (0 : Int32) < ll (nI a).toNatClampNeg := by
      rw [hca, h2]
      have h9 := qm_ln_len h1
      exact nI_lt (a := 0) (by simp) (by omega)
    have ei : nI a * 9 = nI (a * 9) := qm_i9
    have hi : vp_in (nI a * 9) 81 := by rw [ei]; exact vp_in_nI (by omega) (by decide)
    have rd : lk (nI a * 9).toNatClampNeg = nI k0 := by
      rw [ei, nI_clamp (by omega)]
      exact h3 0 k0 rfl
    have e15 : nI k0 &&& 15 = nI (k0 % 16) := qm_k15 (by omega)
    have e4 : nI k0 >>> ((4 : Int32) &&& 31) = nI (k0 / 16) := qm_k4 (by omega)
    obtain ⟨lk1, ll1, lw1, hX1, wrem⟩ := qm_xrem (n := k0 % 16) hW2 ha9 (by omega)
    obtain ⟨p', y', hP', wX, wY⟩ := qm_send2 hN hP 2 a (k0 % 16) (k0 / 16) (qm_OKi (by decide) (by decide) ha hkN hq hk1 hk999)
    have ej : nI a * 9 + nI (k0 % 16) = nI (a * 9 + k0 % 16) := qm_idx
    have hij : vp_in (nI a * 9 + nI (k0 % 16)) 81 := by rw [ej]; exact vp_in_nI (by omega) (by decide)
    have hcj : (nI a * 9 + nI (k0 % 16)).toNatClampNeg = a * 9 + k0 % 16 := by rw [ej]; exact nI_clamp (by omega)
    have rw1 : wt (nI a * 9 + nI (k0 % 16)).toNatClampNeg = nI (k0 / 16) := by rw [hcj, hW1, hkw]
    refine ⟨(nI N, nI T, wn, p'.1, p'.2.1, p'.2.2.1, p'.2.2.2.1, p'.2.2.2.2.1, qb, ph, st, ck, hb, rb, lb, en, ov, upd hk a (nI k0), lk1, ll1, lw1, p'.2.2.2.2.2.1, p'.2.2.2.2.2.2.1, p'.2.2.2.2.2.2.2.1, p'.2.2.2.2.2.2.2.2.1, p'.2.2.2.2.2.2.2.2.2.1, p'.2.2.2.2.2.2.2.2.2.2.1, p'.2.2.2.2.2.2.2.2.2.2.2.1, p'.2.2.2.2.2.2.2.2.2.2.2.2.1, p'.2.2.2.2.2.2.2.2.2.2.2.2.2.1, p'.2.2.2.2.2.2.2.2.2.2.2.2.2.2), (nI W, nI N, nI T, y'.1, ph, st, ck, en, ov, sd, upd lo a (nI (k0 % 16)), upd ls a (nI (k0 / 16)), upd wt (a * 9 + k0 % 16) (nI 0), y'.2.1, y'.2.2.1, y'.2.2.2.1, y'.2.2.2.2, re),
      qm_mk hG hR hS (qm_H_up hH (Or.inr ⟨k0 % 16, k0 / 16, hkN, hk1, hk999, hq, by apply congrArg nI; omega, rfl, rfl⟩)) ⟨qm_rep_up hW1 _ 0, hX1, qm_ln_0 hW3 ha hkN hN (fun z => absurd rfl z)⟩ hP', fun post hp => ?_, fun x1 post hp => ?_⟩
    · exact And.intro hia (br_t hl (And.intro hi (nm_r (e' := nI k0) rd (wrem e15 (And.intro hia (nm_r (e' := upd hk a (nI k0)) (by rw [hca]) (wX e15 e4 hp)))))))
    · refine And.intro hia (nm_r (e' := upd lo a (-1)) (by rw [hca]) (And.intro hia (nm_r (e' := upd ls a 0) (by rw [hca]) (wold (br_f (nI_pos (by omega)) (And.intro hij ?_))))))
      rw [rw1]
      exact And.intro hia (nm_r (e' := upd lo a (nI (k0 % 16))) (by rw [hca, qm_upup]) (And.intro hia (nm_r (e' := upd ls a (nI (k0 / 16))) (by rw [hca, qm_upup]) (And.intro hij (nm_r (e' := upd wt (a * 9 + k0 % 16) (nI 0)) (by rw [hcj]; rfl) (wY rfl rfl hp))))))
theorem qm_HS (hH : qm_H N W hk lo ls) (ha : a < 9) (hr : r < 9) (hs : s ≤ 999) (hN : N ≤ 9) : (hk a = nI (16 * s + r) ∧ lo a = nI r ∧ ls a = nI s) ∨ (hk a ≠ nI (16 * s + r) ∧ (lo a = nI r → ls a ≠ nI s)) := by
  rcases hH a ha with ⟨e1, e2, e3⟩ | ⟨n, t, h1, h2, h3, h4, e1, e2, e3⟩
  · refine Or.inr ⟨?_, ?_⟩
    · rw [e1]; exact (qm_nm1 (by omega)).symm
    · intro e; rw [e2] at e; exact absurd e.symm (qm_nm1 (by omega))
  · by_cases c : n = r ∧ t = s
    · obtain ⟨c1, c2⟩ := c
      subst c1 c2
      exact Or.inl ⟨e1, e2, e3⟩
    · refine Or.inr ⟨?_, ?_⟩
      · rw [e1]
        intro e
        have := (nI_eq (by omega) (by omega)).mp e
        omega
      · intro e e'
        rw [e2] at e
        rw [e3] at e'
        have x1 := (nI_eq (by omega) (by omega)).mp e
        have x2 := (nI_eq (by omega) (by omega)).mp e'
        exact c ⟨x1, x2⟩
theorem qm_ret5 (hG : qm_G N W T qb) (hR : qm_R sv cv wn ph st ck) (hS : qm_S N W sg sd hb rb lb) (hH : qm_H N W hk lo ls) (hW : qm_Wt N W w wt lk ll lw) (hP : qm_P N W Q p y) (ha : a < N) (hr : r < N) (hq : qm_q W r a = true) (hs1 : 1 ≤ s) (hs : s ≤ 999) :
    qm_BB (fun post => wpX_onRelinquish post (nI N, nI T, wn, p.1, p.2.1, p.2.2.1, p.2.2.2.1, p.2.2.2.2.1, qb, ph, st, ck, hb, rb, lb, en, ov, hk, lk, ll, lw, p.2.2.2.2.2.1, p.2.2.2.2.2.2.1, p.2.2.2.2.2.2.2.1, p.2.2.2.2.2.2.2.2.1, p.2.2.2.2.2.2.2.2.2.1, p.2.2.2.2.2.2.2.2.2.2.1, p.2.2.2.2.2.2.2.2.2.2.2.1, p.2.2.2.2.2.2.2.2.2.2.2.2.1, p.2.2.2.2.2.2.2.2.2.2.2.2.2.1, p.2.2.2.2.2.2.2.2.2.2.2.2.2.2) (nI a) (nI r) (nI s)) (fun post => wpY_atReturn post (nI W, nI N, nI T, y.1, ph, st, ck, en, ov, sd, lo, ls, wt, y.2.1, y.2.2.1, y.2.2.2.1, y.2.2.2.2, re) 5 (nI a) (nI r) (nI s)) := by
  have hN := hG.2.2.1
  have ha9 : a < 9 := by omega
  have hia : vp_in (nI a) 9 := vp_in_nI ha9 (by decide)
  have hca : (nI a).toNatClampNeg = a := nI_clamp (by omega)
  rcases qm_HS hH ha9 (show r < 9 by omega) hs hN with ⟨e1, e2, e3⟩ | ⟨e1, e2⟩
  · obtain ⟨lk1, ll1, lw1, hX1, wadd⟩ := qm_xadd (n := r) hW.2.1 ha9 (by omega) hs1 hs
    have ej : nI a * 9 + nI r = nI (a * 9 + r) := qm_idx
    have hij : vp_in (nI a * 9 + nI r) 81 := by rw [ej]; exact vp_in_nI (by omega) (by decide)
    have hcj : (nI a * 9 + nI r).toNatClampNeg = a * 9 + r := by rw [ej]; exact nI_clamp (by omega)
    obtain ⟨u', v', hrel, wX, wY⟩ := qm_grant (en := en) (ov := ov) (re := re) hG hR hS hH (w := qm_up w (a * 9 + r) s) (wt := upd wt (a * 9 + r) (nI s)) ⟨qm_rep_up hW.1 _ _, hX1, qm_ln_0 hW.2.2 ha hr hN (fun _ => qm_q_symm hq)⟩ hP ha
    refine ⟨5, u', v', hrel, fun post hp => ?_, fun post hp => ?_⟩
    · unfold wpX_onRelinquish
      refine qm_xkey (s := s) (n := r) hs (by omega) rfl rfl ?_
      exact (And.intro hia (br_t (by rw [hca]; exact e1) (wadd rfl (wX _ hp))))
    · exact And.intro hia (br_t (by rw [hca]; exact e2) (And.intro hia (br_t (by rw [hca]; exact e3) (br_t rfl (And.intro hij (nm_r (e' := upd wt (a * 9 + r) (nI s)) (by rw [hcj]) (wY _ _ hp)))))))
  · refine ⟨8, _, _, qm_mk (en := en) (ov := ov) (re := re) hG hR hS hH hW hP, fun post hp => ?_, fun post hp => ?_⟩
    · unfold wpX_onRelinquish
      refine qm_xkey (s := s) (n := r) hs (by omega) rfl rfl ?_
      exact (And.intro hia (br_f (by rw [hca]; exact e1) hp))
    · refine And.intro hia ?_
      by_cases c : lo a = nI r
      · exact br_t (by rw [hca]; exact c) (And.intro hia (br_f (by rw [hca]; exact e2 c) hp))
      · exact br_f (by rw [hca]; exact c) hp
theorem qm_ret6 (hG : qm_G N W T qb) (hR : qm_R sv cv wn ph st ck) (hS : qm_S N W sg sd hb rb lb) (hH : qm_H N W hk lo ls) (hW : qm_Wt N W w wt lk ll lw) (hP : qm_P N W Q p y) (ha : a < N) (hr : r < N) (hs : s ≤ 999) :
    qm_BB (fun post => wpX_onRelease post (nI N, nI T, wn, p.1, p.2.1, p.2.2.1, p.2.2.2.1, p.2.2.2.2.1, qb, ph, st, ck, hb, rb, lb, en, ov, hk, lk, ll, lw, p.2.2.2.2.2.1, p.2.2.2.2.2.2.1, p.2.2.2.2.2.2.2.1, p.2.2.2.2.2.2.2.2.1, p.2.2.2.2.2.2.2.2.2.1, p.2.2.2.2.2.2.2.2.2.2.1, p.2.2.2.2.2.2.2.2.2.2.2.1, p.2.2.2.2.2.2.2.2.2.2.2.2.1, p.2.2.2.2.2.2.2.2.2.2.2.2.2.1, p.2.2.2.2.2.2.2.2.2.2.2.2.2.2) (nI a) (nI r) (nI s)) (fun post => wpY_atReturn post (nI W, nI N, nI T, y.1, ph, st, ck, en, ov, sd, lo, ls, wt, y.2.1, y.2.2.1, y.2.2.2.1, y.2.2.2.2, re) 6 (nI a) (nI r) (nI s)) := by
  have hN := hG.2.2.1
  have ha9 : a < 9 := by omega
  have hia : vp_in (nI a) 9 := vp_in_nI ha9 (by decide)
  have hca : (nI a).toNatClampNeg = a := nI_clamp (by omega)
  rcases qm_HS hH ha9 (show r < 9 by omega) hs hN with ⟨e1, e2, e3⟩ | ⟨e1, e2⟩
  · obtain ⟨u', v', hrel, wX, wY⟩ := qm_grant (en := en) (ov := ov) (re := re) hG hR hS hH hW hP ha
    refine ⟨6, u', v', hrel, fun post hp => ?_, fun post hp => ?_⟩
    · unfold wpX_onRelease
      refine qm_xkey (s := s) (n := r) hs (by omega) rfl rfl ?_
      exact (And.intro hia (br_t (by rw [hca]; exact e1) (wX _ hp)))
    · exact And.intro hia (br_t (by rw [hca]; exact e2) (And.intro hia (br_t (by rw [hca]; exact e3) (br_f (by decide) (wY _ _ hp)))))
  · refine ⟨8, _, _, qm_mk (en := en) (ov := ov) (re := re) hG hR hS hH hW hP, fun post hp => ?_, fun post hp => ?_⟩
    · unfold wpX_onRelease
      refine qm_xkey (s := s) (n := r) hs (by omega) rfl rfl ?_
      exact (And.intro hia (br_f (by rw [hca]; exact e1) hp))
    · refine And.intro hia ?_
      by_cases c : lo a = nI r
      · exact br_t (by rw [hca]; exact c) (And.intro hia (br_f (by rw [hca]; exact e2 c) hp))
      · exact br_f (by rw [hca]; exact c) hp
end
end
section
/-! the arbiter: onRequest -/
section
variable {N W T : Nat} {sv cv sg w : Nat → Nat} {Q : List qm_M} {wn : Int32} {p : qm_PT} {y : qm_YT} {qb ph st ck hb rb lb en ov hk lk ll lw sd lo ls wt re : Nat → Int32}
variable {a r s : Nat}
theorem qm_onreq (hG : qm_G N W T qb) (hR : qm_R sv cv wn ph st ck) (hS : qm_S N W sg sd hb rb lb) (hH : qm_H N W hk lo ls) (hW : qm_Wt N W w wt lk ll lw) (hP : qm_P N W Q p y) (ha : a < N) (hr : r < N) (hq : qm_q W r a = true) (hs1 : 1 ≤ s) (hs : s ≤ 999) :
    qm_BB (fun post => wpX_onRequest post (nI N, nI T, wn, p.1, p.2.1, p.2.2.1, p.2.2.2.1, p.2.2.2.2.1, qb, ph, st, ck, hb, rb, lb, en, ov, hk, lk, ll, lw, p.2.2.2.2.2.1, p.2.2.2.2.2.2.1, p.2.2.2.2.2.2.2.1, p.2.2.2.2.2.2.2.2.1, p.2.2.2.2.2.2.2.2.2.1, p.2.2.2.2.2.2.2.2.2.2.1, p.2.2.2.2.2.2.2.2.2.2.2.1, p.2.2.2.2.2.2.2.2.2.2.2.2.1, p.2.2.2.2.2.2.2.2.2.2.2.2.2.1, p.2.2.2.2.2.2.2.2.2.2.2.2.2.2) (nI a) (nI r) (nI s)) (fun post => wpY_atRequest post (nI W, nI N, nI T, y.1, ph, st, ck, en, ov, sd, lo, ls, wt, y.2.1, y.2.2.1, y.2.2.2.1, y.2.2.2.2, re) (nI a) (nI r) (nI s)) := by
  have hN := hG.2.2.1
  have ha9 : a < 9 := by omega
  have hr9 : r < 9 := by omega
  have hqs := qm_q_symm hq
  have hia : vp_in (nI a) 9 := vp_in_nI ha9 (by decide)
  have hca : (nI a).toNatClampNeg = a := nI_clamp (by omega)
  have ej : nI a * 9 + nI r = nI (a * 9 + r) := qm_idx
  have hij : vp_in (nI a * 9 + nI r) 81 := by rw [ej]; exact vp_in_nI (by omega) (by decide)
  have hcj : (nI a * 9 + nI r).toNatClampNeg = a * 9 + r := by rw [ej]; exact nI_clamp (by omega)
  obtain ⟨lk1, ll1, lw1, hX1, wrem⟩ := qm_xrem (n := r) hW.2.1 ha9 hr9
  have hrep1 : qm_rep (upd wt (a * 9 + r) (nI 0)) (qm_up w (a * 9 + r) 0) := qm_rep_up hW.1 _ _
  rcases hH a ha9 with ⟨e1, e2, e3⟩ | ⟨n0, s0, hn0, hs01, hs0, hq0, e1, e2, e3⟩
  · obtain ⟨p', y', hP', wX, wY⟩ := qm_send2 hN hP 2 a r s (qm_OKi (by decide) (by decide) ha hr hqs hs1 hs)
    refine ⟨1, (nI N, nI T, wn, p'.1, p'.2.1, p'.2.2.1, p'.2.2.2.1, p'.2.2.2.2.1, qb, ph, st, ck, hb, rb, lb, en, ov, upd hk a (nI (16 * s + r)), lk1, ll1, lw1, p'.2.2.2.2.2.1, p'.2.2.2.2.2.2.1, p'.2.2.2.2.2.2.2.1, p'.2.2.2.2.2.2.2.2.1, p'.2.2.2.2.2.2.2.2.2.1, p'.2.2.2.2.2.2.2.2.2.2.1, p'.2.2.2.2.2.2.2.2.2.2.2.1, p'.2.2.2.2.2.2.2.2.2.2.2.2.1, p'.2.2.2.2.2.2.2.2.2.2.2.2.2.1, p'.2.2.2.2.2.2.2.2.2.2.2.2.2.2), (nI W, nI N, nI T, y'.1, ph, st, ck, en, ov, sd, upd lo a (nI r), upd ls a (nI s), upd wt (a * 9 + r) (nI 0), y'.2.1, y'.2.2.1, y'.2.2.2.1, y'.2.2.2.2, re),
      qm_mk hG hR hS (qm_H_up hH (Or.inr ⟨r, s, hr, hs1, hs, hqs, rfl, rfl, rfl⟩)) ⟨hrep1, hX1, qm_ln_0 hW.2.2 ha hr hN (fun z => absurd rfl z)⟩ hP', fun post hp => ?_, fun post hp => ?_⟩
    · unfold wpX_onRequest
      refine wrem rfl ?_
      refine qm_xkey (s := s) (n := r) hs (by omega) rfl rfl ?_
      exact (And.intro hia (nm_r (e' := -1) (by rw [hca]; exact e1) (br_f qm_m1m (And.intro hia (nm_r (e' := upd hk a (nI (16 * s + r))) (by rw [hca]) (wX rfl rfl hp))))))
    · exact And.intro hij (nm_r (e' := upd wt (a * 9 + r) (nI 0)) (by rw [hcj]; rfl) (And.intro hia (nm_r (e' := -1) (by rw [hca]; exact e2) (br_f qm_m1m (And.intro hia (nm_r (e' := upd lo a (nI r)) (by rw [hca]) (And.intro hia (nm_r (e' := upd ls a (nI s)) (by rw [hca]) (And.intro hij (nm_r (e' := upd wt (a * 9 + r) (nI 0)) (by rw [hcj, qm_upup]; rfl) (wY rfl rfl hp)))))))))))
  · have hn09 : n0 < 9 := by omega
    obtain ⟨l, h1, h2, h3, h4⟩ := hX1.2 a ha9
    obtain ⟨lk2, ll2, lw2, hX2, wadd⟩ := qm_xadd (n := r) hX1 ha9 hr9 hs1 hs
    rw [qm_uu] at hX2
    obtain ⟨ro, hro, wold⟩ := qm_yold (N := N) (a := a) hN ha9 hrep1 hX1.1
    have hrep2 : qm_rep (upd wt (a * 9 + r) (nI s)) (qm_up w (a * 9 + r) s) := qm_rep_up hW.1 _ _
    have hsup1 : ∀ b m, b < 9 → m < 9 → qm_up w (a * 9 + r) 0 (b * 9 + m) ≠ 0 → b < N ∧ m < N ∧ qm_q W b m = true := qm_ln_0 hW.2.2 ha hr hN (fun z => absurd rfl z)
    have hW2 : qm_Wt N W (qm_up w (a * 9 + r) s) (upd wt (a * 9 + r) (nI s)) lk2 ll2 lw2 := ⟨hrep2, hX2, qm_ln_0 hW.2.2 ha hr hN (fun _ => hqs)⟩
    have h0x : (0 : Int32) ≤ nI (16 * s0 + n0) := nI_pos' (by omega)
    have h0y : (0 : Int32) ≤ nI n0 := nI_pos' (by omega)
    have e15 : nI (16 * s0 + n0) &&& 15 = nI n0 := by rw [qm_k15 (by omega)]; exact congrArg nI (by omega)
    have e4 : nI (16 * s0 + n0) >>> ((4 : Int32) &&& 31) = nI s0 := by rw [qm_k4 (by omega)]; exact congrArg nI (by omega)
    have els : ls (nI a).toNatClampNeg = nI s0 := by rw [hca]; exact e3
    have yw2 : upd (upd wt (a * 9 + r) (nI 0)) (nI a * 9 + nI r).toNatClampNeg (nI s) = upd wt (a * 9 + r) (nI s) := by rw [hcj, qm_upup]
    have yw1 : upd wt (nI a * 9 + nI r).toNatClampNeg 0 = upd wt (a * 9 + r) (nI 0) := by rw [hcj]; rfl
    cases l with
    | nil =>
      have ero := qm_mn_nil h1 hN hro
      subst ero
      have hl : ll1 (nI a).toNatClampNeg ≤ 0 := by rw [hca, h2]; decide
      by_cases c : 16 * s + r < 16 * s0 + n0
      · have nx : ¬ nI (16 * s0 + n0) ≤ nI (16 * s + r) := nI_ge (by omega) (by omega)
        obtain ⟨p', y', hP', wX, wY⟩ := qm_send2 hN hP 4 a n0 s0 (qm_OKi (by decide) (by decide) ha hn0 hq0 hs01 hs0)
        refine ⟨1, (nI N, nI T, wn, p'.1, p'.2.1, p'.2.2.1, p'.2.2.2.1, p'.2.2.2.2.1, qb, ph, st, ck, hb, rb, lb, en, ov, hk, lk2, ll2, lw2, p'.2.2.2.2.2.1, p'.2.2.2.2.2.2.1, p'.2.2.2.2.2.2.2.1, p'.2.2.2.2.2.2.2.2.1, p'.2.2.2.2.2.2.2.2.2.1, p'.2.2.2.2.2.2.2.2.2.2.1, p'.2.2.2.2.2.2.2.2.2.2.2.1, p'.2.2.2.2.2.2.2.2.2.2.2.2.1, p'.2.2.2.2.2.2.2.2.2.2.2.2.2.1, p'.2.2.2.2.2.2.2.2.2.2.2.2.2.2), (nI W, nI N, nI T, y'.1, ph, st, ck, en, ov, sd, lo, ls, upd wt (a * 9 + r) (nI s), y'.2.1, y'.2.2.1, y'.2.2.2.1, y'.2.2.2.2, re), qm_mk hG hR hS hH hW2 hP', fun post hp => ?_, fun post hp => ?_⟩
        · unfold wpX_onRequest
          refine wrem rfl ?_
          refine qm_xkey (s := s) (n := r) hs (by omega) rfl rfl ?_
          exact (And.intro hia (nm_r (e' := nI (16 * s0 + n0)) (by rw [hca]; exact e1) (br_t h0x (And.intro hia (br_t hl (wadd rfl (br_f nx (br_t qm_m1n (br_t qm_m1n (wX e15 e4 hp))))))))))
        · exact And.intro hij (nm_r yw1 (And.intro hia (nm_r (e' := nI n0) (by rw [hca]; exact e2) (br_t h0y (wold (And.intro hij (nm_r yw2 (And.intro hia (qm_olderE hs hs0 hr9 hn09 rfl rfl els rfl (fun _ => br_f (by decide) (br_t qm_m1n (br_f (by decide) (br_t qm_m1n (And.intro hia (wY rfl els hp)))))) (fun z => absurd c z))))))))))
      · have nx : nI (16 * s0 + n0) ≤ nI (16 * s + r) := nI_le (by omega) (by omega)
        obtain ⟨p', y', hP', wX, wY⟩ := qm_send2 hN hP 3 a r s (qm_OKi (by decide) (by decide) ha hr hqs hs1 hs)
        refine ⟨1, (nI N, nI T, wn, p'.1, p'.2.1, p'.2.2.1, p'.2.2.2.1, p'.2.2.2.2.1, qb, ph, st, ck, hb, rb, lb, en, ov, hk, lk2, ll2, lw2, p'.2.2.2.2.2.1, p'.2.2.2.2.2.2.1, p'.2.2.2.2.2.2.2.1, p'.2.2.2.2.2.2.2.2.1, p'.2.2.2.2.2.2.2.2.2.1, p'.2.2.2.2.2.2.2.2.2.2.1, p'.2.2.2.2.2.2.2.2.2.2.2.1, p'.2.2.2.2.2.2.2.2.2.2.2.2.1, p'.2.2.2.2.2.2.2.2.2.2.2.2.2.1, p'.2.2.2.2.2.2.2.2.2.2.2.2.2.2), (nI W, nI N, nI T, y'.1, ph, st, ck, en, ov, sd, lo, ls, upd wt (a * 9 + r) (nI s), y'.2.1, y'.2.2.1, y'.2.2.2.1, y'.2.2.2.2, re), qm_mk hG hR hS hH hW2 hP', fun post hp => ?_, fun post hp => ?_⟩
        · unfold wpX_onRequest
          refine wrem rfl ?_
          refine qm_xkey (s := s) (n := r) hs (by omega) rfl rfl ?_
          exact (And.intro hia (nm_r (e' := nI (16 * s0 + n0)) (by rw [hca]; exact e1) (br_t h0x (And.intro hia (br_t hl (wadd rfl (br_t nx (wX rfl rfl hp))))))))
        · exact And.intro hij (nm_r yw1 (And.intro hia (nm_r (e' := nI n0) (by rw [hca]; exact e2) (br_t h0y (wold (And.intro hij (nm_r yw2 (And.intro hia (qm_olderE hs hs0 hr9 hn09 rfl rfl els rfl (fun z => absurd z c) (fun _ => br_t rfl (br_t rfl (wY rfl rfl hp))))))))))))
    | cons k0 l' =>
      obtain ⟨ero, hkN, hkw, hk1⟩ := qm_mn_cons h1 hN (fun n hn hz => (hsup1 a n ha9 hn hz).2.1) hro
      subst ero
      have hkq : qm_q W a (k0 % 16) = true := (hsup1 a (k0 % 16) ha9 (by omega) (by omega)).2.2
      have hk999 : k0 / 16 ≤ 999 := by rw [← hkw]; exact hX1.1 _
      have hl : ¬ ll1 (nI a).toNatClampNeg ≤ 0 := by
        rw [hca, h2]
        have h9 := qm_ln_len h1
        exact nI_nle (by simp) (by omega)
      have hkr : k0 % 16 ≠ r := by
        intro e
        rw [e, qm_us] at hkw
        omega
      have ei : nI a * 9 = nI (a * 9) := qm_i9
      have hi : vp_in (nI a * 9) 81 := by rw [ei]; exact vp_in_nI (by omega) (by decide)
      have rd : lk1 (nI a * 9).toNatClampNeg = nI k0 := by
        rw [ei, nI_clamp (by omega)]
        exact h3 0 k0 rfl
      have k15 : nI k0 &&& 15 = nI (k0 % 16) := qm_k15 (by omega)
      have k4 : nI k0 >>> ((4 : Int32) &&& 31) = nI (k0 / 16) := qm_k4 (by omega)
      have ek : nI a * 9 + nI (k0 % 16) = nI (a * 9 + k0 % 16) := qm_idx
      have hik : vp_in (nI a * 9 + nI (k0 % 16)) 81 := by rw [ek]; exact vp_in_nI (by omega) (by decide)
      have hck : (nI a * 9 + nI (k0 % 16)).toNatClampNeg = a * 9 + k0 % 16 := by rw [ek]; exact nI_clamp (by omega)
      have rdw : upd wt (a * 9 + r) (nI s) (nI a * 9 + nI (k0 % 16)).toNatClampNeg = nI (k0 / 16) := by
        rw [hck, pk_un (by omega), hW.1, ← hkw, qm_un (by omega)]
      have kp : ¬ nI k0 < 0 := nI_pos (by omega)
      have fp : ¬ nI (k0 % 16) < 0 := nI_pos (by omega)
      by_cases c : 16 * s + r < 16 * s0 + n0
      · have nx : ¬ nI (16 * s0 + n0) ≤ nI (16 * s + r) := nI_ge (by omega) (by omega)
        by_cases c2 : 16 * s + r < k0
        · have nx2 : ¬ nI k0 ≤ nI (16 * s + r) := nI_ge (by omega) (by omega)
          by_cases c3 : k0 < 16 * s0 + n0
          · have nx3 : ¬ nI (16 * s0 + n0) ≤ nI k0 := nI_ge (by omega) (by omega)
            obtain ⟨p', y', hP', wX, wY⟩ := qm_send2 hN hP 3 a (k0 % 16) (k0 / 16) (qm_OKi (by decide) (by decide) ha hkN hkq hk1 hk999)
            refine ⟨1, (nI N, nI T, wn, p'.1, p'.2.1, p'.2.2.1, p'.2.2.2.1, p'.2.2.2.2.1, qb, ph, st, ck, hb, rb, lb, en, ov, hk, lk2, ll2, lw2, p'.2.2.2.2.2.1, p'.2.2.2.2.2.2.1, p'.2.2.2.2.2.2.2.1, p'.2.2.2.2.2.2.2.2.1, p'.2.2.2.2.2.2.2.2.2.1, p'.2.2.2.2.2.2.2.2.2.2.1, p'.2.2.2.2.2.2.2.2.2.2.2.1, p'.2.2.2.2.2.2.2.2.2.2.2.2.1, p'.2.2.2.2.2.2.2.2.2.2.2.2.2.1, p'.2.2.2.2.2.2.2.2.2.2.2.2.2.2), (nI W, nI N, nI T, y'.1, ph, st, ck, en, ov, sd, lo, ls, upd wt (a * 9 + r) (nI s), y'.2.1, y'.2.2.1, y'.2.2.2.1, y'.2.2.2.2, re), qm_mk hG hR hS hH hW2 hP', fun post hp => ?_, fun post hp => ?_⟩
            · unfold wpX_onRequest
              refine wrem rfl ?_
              refine qm_xkey (s := s) (n := r) hs (by omega) rfl rfl ?_
              exact (And.intro hia (nm_r (e' := nI (16 * s0 + n0)) (by rw [hca]; exact e1) (br_t h0x (And.intro hia (br_f hl (And.intro hi (nm_r rd (wadd rfl (br_f nx (br_f kp (br_f nx2 (br_f kp (br_f nx3 (wX k15 k4 hp))))))))))))))
            · exact And.intro hij (nm_r yw1 (And.intro hia (nm_r (e' := nI n0) (by rw [hca]; exact e2) (br_t h0y (wold (And.intro hij (nm_r yw2 (And.intro hia (qm_olderE hs hs0 hr9 hn09 rfl rfl els rfl (fun _ => br_f (by decide) (br_f fp (And.intro hik (qm_olderE hs hk999 hr9 (by omega) rfl rfl rdw rfl (fun _ => br_f (by decide) (br_f fp (And.intro hik (And.intro hia (qm_olderE hk999 hs0 (by omega) hn09 rdw rfl els rfl (fun _ => br_f (by decide) (And.intro hik (wY rfl rdw hp))) (fun z => absurd (by omega) z)))))) (fun z => absurd (by omega) z))))) (fun z => absurd c z))))))))))
          · have nx3 : nI (16 * s0 + n0) ≤ nI k0 := nI_le (by omega) (by omega)
            obtain ⟨p', y', hP', wX, wY⟩ := qm_send2 hN hP 4 a n0 s0 (qm_OKi (by decide) (by decide) ha hn0 hq0 hs01 hs0)
            refine ⟨1, (nI N, nI T, wn, p'.1, p'.2.1, p'.2.2.1, p'.2.2.2.1, p'.2.2.2.2.1, qb, ph, st, ck, hb, rb, lb, en, ov, hk, lk2, ll2, lw2, p'.2.2.2.2.2.1, p'.2.2.2.2.2.2.1, p'.2.2.2.2.2.2.2.1, p'.2.2.2.2.2.2.2.2.1, p'.2.2.2.2.2.2.2.2.2.1, p'.2.2.2.2.2.2.2.2.2.2.1, p'.2.2.2.2.2.2.2.2.2.2.2.1, p'.2.2.2.2.2.2.2.2.2.2.2.2.1, p'.2.2.2.2.2.2.2.2.2.2.2.2.2.1, p'.2.2.2.2.2.2.2.2.2.2.2.2.2.2), (nI W, nI N, nI T, y'.1, ph, st, ck, en, ov, sd, lo, ls, upd wt (a * 9 + r) (nI s), y'.2.1, y'.2.2.1, y'.2.2.2.1, y'.2.2.2.2, re), qm_mk hG hR hS hH hW2 hP', fun post hp => ?_, fun post hp => ?_⟩
            · unfold wpX_onRequest
              refine wrem rfl ?_
              refine qm_xkey (s := s) (n := r) hs (by omega) rfl rfl ?_
              exact (And.intro hia (nm_r (e' := nI (16 * s0 + n0)) (by rw [hca]; exact e1) (br_t h0x (And.intro hia (br_f hl (And.intro hi (nm_r rd (wadd rfl (br_f nx (br_f kp (br_f nx2 (br_f kp (br_t nx3 (wX e15 e4 hp))))))))))))))
            · exact And.intro hij (nm_r yw1 (And.intro hia (nm_r (e' := nI n0) (by rw [hca]; exact e2) (br_t h0y (wold (And.intro hij (nm_r yw2 (And.intro hia (qm_olderE hs hs0 hr9 hn09 rfl rfl els rfl (fun _ => br_f (by decide) (br_f fp (And.intro hik (qm_olderE hs hk999 hr9 (by omega) rfl rfl rdw rfl (fun _ => br_f (by decide) (br_f fp (And.intro hik (And.intro hia (qm_olderE hk999 hs0 (by omega) hn09 rdw rfl els rfl (fun z => absurd z (by omega)) (fun _ => br_t rfl (And.intro hia (wY rfl els hp)))))))) (fun z => absurd (by omega) z))))) (fun z => absurd c z))))))))))
        · have nx2 : nI k0 ≤ nI (16 * s + r) := nI_le (by omega) (by omega)
          obtain ⟨p', y', hP', wX, wY⟩ := qm_send2 hN hP 3 a r s (qm_OKi (by decide) (by decide) ha hr hqs hs1 hs)
          refine ⟨1, (nI N, nI T, wn, p'.1, p'.2.1, p'.2.2.1, p'.2.2.2.1, p'.2.2.2.2.1, qb, ph, st, ck, hb, rb, lb, en, ov, hk, lk2, ll2, lw2, p'.2.2.2.2.2.1, p'.2.2.2.2.2.2.1, p'.2.2.2.2.2.2.2.1, p'.2.2.2.2.2.2.2.2.1, p'.2.2.2.2.2.2.2.2.2.1, p'.2.2.2.2.2.2.2.2.2.2.1, p'.2.2.2.2.2.2.2.2.2.2.2.1, p'.2.2.2.2.2.2.2.2.2.2.2.2.1, p'.2.2.2.2.2.2.2.2.2.2.2.2.2.1, p'.2.2.2.2.2.2.2.2.2.2.2.2.2.2), (nI W, nI N, nI T, y'.1, ph, st, ck, en, ov, sd, lo, ls, upd wt (a * 9 + r) (nI s), y'.2.1, y'.2.2.1, y'.2.2.2.1, y'.2.2.2.2, re), qm_mk hG hR hS hH hW2 hP', fun post hp => ?_, fun post hp => ?_⟩
          · unfold wpX_onRequest
            refine wrem rfl ?_
            refine qm_xkey (s := s) (n := r) hs (by omega) rfl rfl ?_
            exact (And.intro hia (nm_r (e' := nI (16 * s0 + n0)) (by rw [hca]; exact e1) (br_t h0x (And.intro hia (br_f hl (And.intro hi (nm_r rd (wadd rfl (br_f nx (br_f kp (br_t nx2 (wX rfl rfl hp))))))))))))
          · exact And.intro hij (nm_r yw1 (And.intro hia (nm_r (e' := nI n0) (by rw [hca]; exact e2) (br_t h0y (wold (And.intro hij (nm_r yw2 (And.intro hia (qm_olderE hs hs0 hr9 hn09 rfl rfl els rfl (fun _ => br_f (by decide) (br_f fp (And.intro hik (qm_olderE hs hk999 hr9 (by omega) rfl rfl rdw rfl (fun z => absurd z (by omega)) (fun _ => br_t rfl (wY rfl rfl hp)))))) (fun z => absurd c z))))))))))
      · have nx : nI (16 * s0 + n0) ≤ nI (16 * s + r) := nI_le (by omega) (by omega)
        obtain ⟨p', y', hP', wX, wY⟩ := qm_send2 hN hP 3 a r s (qm_OKi (by decide) (by decide) ha hr hqs hs1 hs)
        refine ⟨1, (nI N, nI T, wn, p'.1, p'.2.1, p'.2.2.1, p'.2.2.2.1, p'.2.2.2.2.1, qb, ph, st, ck, hb, rb, lb, en, ov, hk, lk2, ll2, lw2, p'.2.2.2.2.2.1, p'.2.2.2.2.2.2.1, p'.2.2.2.2.2.2.2.1, p'.2.2.2.2.2.2.2.2.1, p'.2.2.2.2.2.2.2.2.2.1, p'.2.2.2.2.2.2.2.2.2.2.1, p'.2.2.2.2.2.2.2.2.2.2.2.1, p'.2.2.2.2.2.2.2.2.2.2.2.2.1, p'.2.2.2.2.2.2.2.2.2.2.2.2.2.1, p'.2.2.2.2.2.2.2.2.2.2.2.2.2.2), (nI W, nI N, nI T, y'.1, ph, st, ck, en, ov, sd, lo, ls, upd wt (a * 9 + r) (nI s), y'.2.1, y'.2.2.1, y'.2.2.2.1, y'.2.2.2.2, re), qm_mk hG hR hS hH hW2 hP', fun post hp => ?_, fun post hp => ?_⟩
        · unfold wpX_onRequest
          refine wrem rfl ?_
          refine qm_xkey (s := s) (n := r) hs (by omega) rfl rfl ?_
          exact (And.intro hia (nm_r (e' := nI (16 * s0 + n0)) (by rw [hca]; exact e1) (br_t h0x (And.intro hia (br_f hl (And.intro hi (nm_r rd (wadd rfl (br_t nx (wX rfl rfl hp))))))))))
        · exact And.intro hij (nm_r yw1 (And.intro hia (nm_r (e' := nI n0) (by rw [hca]; exact e2) (br_t h0y (wold (And.intro hij (nm_r yw2 (And.intro hia (qm_olderE hs hs0 hr9 hn09 rfl rfl els rfl (fun z => absurd z c) (fun _ => br_t rfl (br_t rfl (wY rfl rfl hp))))))))))))
end
end
section
/-! the requester: pure rows -/
theorem qm_updsame {f : Nat → Int32} {j : Nat} : upd f j (f j) = f := by
  funext i
  by_cases e : i = j
  · subst e; rw [pk_us]
  · rw [pk_un e]
theorem qm_SB_row {N W : Nat} {sg sg' : Nat → Nat} {hb rb lb : Nat → Int32} {r : Nat} {xh xr xl : Int32} (h : qm_SB N W sg hb rb lb) (ho : ∀ n a, n < 9 → a < 9 → n ≠ r → sg' (n * 9 + a) = sg (n * 9 + a))
    (hb1 : ∀ i, i < 32 → bt xh i = decide (i < 9 ∧ sg' (r * 9 + i) = 1) ∧ bt xr i = decide (i < 9 ∧ sg' (r * 9 + i) = 2) ∧ bt xl i = decide (i < 9 ∧ sg' (r * 9 + i) = 3))
    (hs : ∀ i, i < 9 → sg' (r * 9 + i) ≤ 3 ∧ (sg' (r * 9 + i) ≠ 0 → r < N ∧ i < N ∧ qm_q W r i = true)) : qm_SB N W sg' (upd hb r xh) (upd rb r xr) (upd lb r xl) := by
  refine ⟨fun n hn i hi => ?_, fun n hn i hi => ?_⟩
  · by_cases e : n = r
    · subst e
      rw [pk_us, pk_us, pk_us]
      exact hb1 i hi
    · rw [pk_un e, pk_un e, pk_un e]
      have k := h.1 n hn i hi
      by_cases i9 : i < 9
      · rw [ho n i hn i9 e]; exact k
      · simp only [i9, false_and] at k ⊢
        exact k
  · by_cases e : n = r
    · subst e; exact hs i hi
    · rw [ho n i hn hi e]; exact h.2 n hn i hi
/-- held or recalled by the whole quorum -/
theorem qm_full {N W r : Nat} {sg : Nat → Nat} {hb rb lb qb : Nat → Int32} (h : qm_SB N W sg hb rb lb) (hQ : qm_QB N W qb) (hr : r < N) (hN : N ≤ 9) : (hb r ||| rb r) = qb r ↔ ∀ m, m < N → qm_q W r m = true → sg (r * 9 + m) = 1 ∨ sg (r * 9 + m) = 2 := by
  have hb' : ∀ i, i < 32 → bt (hb r ||| rb r) i = decide (i < 9 ∧ (sg (r * 9 + i) = 1 ∨ sg (r * 9 + i) = 2)) := by
    intro i hi
    have k := h.1 r (by omega) i hi
    rw [b_or, k.1, k.2.1, Bool.eq_iff_iff]
    simp only [Bool.or_eq_true, decide_eq_true_eq]
    omega
  constructor
  · intro e m hm hq
    have k1 := hb' m (by omega)
    rw [e, hQ r hr m (by omega), decide_eq_true (show m < N ∧ qm_q W r m = true from ⟨hm, hq⟩)] at k1
    exact (of_decide_eq_true k1.symm).2
  · intro hall
    apply b_ext
    intro i hi
    rw [hb' i hi, hQ r hr i hi, Bool.eq_iff_iff, decide_eq_true_eq, decide_eq_true_eq]
    constructor
    · intro ⟨i9, k⟩
      exact ((h.2 r (by omega) i i9).2 (by omega)).2
    · intro ⟨i9, k⟩
      exact ⟨by omega, hall i i9 k⟩
theorem qm_lost0 {N W r : Nat} {sg : Nat → Nat} {hb rb lb : Nat → Int32} (h : qm_SB N W sg hb rb lb) (hr : r < N) (hN : N ≤ 9) : lb r = 0 ↔ ∀ m, m < N → qm_q W r m = true → sg (r * 9 + m) ≠ 3 := by
  rw [qm_z]
  constructor
  · intro hz m hm hq e
    have k := (h.1 r (by omega) m (by omega)).2.2
    rw [hz m (by omega)] at k
    exact absurd (show m < 9 ∧ sg (r * 9 + m) = 3 from ⟨by omega, e⟩) (of_decide_eq_false k.symm)
  · intro hall i hi
    rw [(h.1 r (by omega) i hi).2.2]
    apply decide_eq_false
    intro ⟨i9, e⟩
    have k := (h.2 r (by omega) i i9).2 (by omega)
    exact hall i k.2.1 k.2.2 e
theorem qm_b1if {x : Int32} {a i : Nat} {c : Bool} (ha : a < 32) (hi : i < 32) (hc : c = true) : bt (x ||| ((1 : Int32) <<< (nI a &&& 31))) i = if i = a then c else bt x i := by
  rw [qm_bst ha hi]
  by_cases e : i = a
  · rw [if_pos e, decide_eq_true e, Bool.or_true, hc]
  · rw [if_neg e, decide_eq_false e, Bool.or_false]
theorem qm_b0if {x : Int32} {a i : Nat} {c : Bool} (ha : a < 32) (hi : i < 32) (hc : c = false) : bt (x &&& (((1 : Int32) <<< (nI a &&& 31)) ^^^ (-1))) i = if i = a then c else bt x i := by
  rw [qm_bcl ha hi]
  by_cases e : i = a
  · rw [if_pos e, decide_eq_true e, hc, Bool.not_true, Bool.and_false]
  · rw [if_neg e, decide_eq_false e, Bool.not_false, Bool.and_true]
theorem qm_bsame {x : Int32} {a i : Nat} {c : Bool} (h : bt x a = c) : bt x i = if i = a then c else bt x i := by
  by_cases e : i = a
  · rw [if_pos e, e, h]
  · rw [if_neg e]
/-- who waits before the key -/
def qm_wb (ph : Nat → Int32) (sv : Nat → Nat) (own : Nat) : Nat → Bool := fun i => decide (ph i = 1 ∧ 16 * sv i + i < own)
def qm_inc (ov : Nat → Int32) (P : Nat → Bool) : Nat → Nat → Int32
  | 0 => ov
  | i + 1 => if P i = true then upd (qm_inc ov P i) i (qm_inc ov P i i + 1) else qm_inc ov P i
theorem qm_inc_t {ov : Nat → Int32} {P : Nat → Bool} {i : Nat} (h : P i = true) : qm_inc ov P (i + 1) = upd (qm_inc ov P i) i (qm_inc ov P i i + 1) := by
  simp only [qm_inc]
  rw [if_pos h]
theorem qm_inc_f {ov : Nat → Int32} {P : Nat → Bool} {i : Nat} (h : ¬ P i = true) : qm_inc ov P (i + 1) = qm_inc ov P i := by
  simp only [qm_inc]
  rw [if_neg h]
section
variable {nn tp wn : Int32} {p : qm_PT} {qb ph st ck hb rb lb en ov hk lk ll lw : Nat → Int32}
theorem qm_xwb {sv : Nat → Nat} {m own : Nat} (hm : m < 9) (hw : bt wn m = decide (ph m = 1)) (hst : st m = nI (sv m)) (hs : sv m ≤ 999) (ho : own < 65536) {post : Int32 → Prop} (t : qm_wb ph sv own m = true → post 1) (f : ¬ qm_wb ph sv own m = true → post 0) : wpX_waitsBefore post (nn, tp, wn, p.1, p.2.1, p.2.2.1, p.2.2.2.1, p.2.2.2.2.1, qb, ph, st, ck, hb, rb, lb, en, ov, hk, lk, ll, lw, p.2.2.2.2.2.1, p.2.2.2.2.2.2.1, p.2.2.2.2.2.2.2.1, p.2.2.2.2.2.2.2.2.1, p.2.2.2.2.2.2.2.2.2.1, p.2.2.2.2.2.2.2.2.2.2.1, p.2.2.2.2.2.2.2.2.2.2.2.1, p.2.2.2.2.2.2.2.2.2.2.2.2.1, p.2.2.2.2.2.2.2.2.2.2.2.2.2.1, p.2.2.2.2.2.2.2.2.2.2.2.2.2.2) (nI m) (nI own) := by
  by_cases c : ph m = 1
  · refine br_f ?_ (And.intro (vp_in_nI hm (by decide)) (qm_xkey (s := sv m) (n := m) hs (by omega) (by rw [nI_clamp (by omega)]; exact hst) rfl ?_))
    · rw [qm_a0 (by omega), hw, decide_eq_true c]; decide
    · by_cases c2 : 16 * sv m + m < own
      · exact br_f (nI_ge (by omega) (by omega)) (t (decide_eq_true ⟨c, c2⟩))
      · exact br_t (nI_le (by omega) (by omega)) (f (fun z => c2 (of_decide_eq_true z).2))
  · refine br_t ?_ (f (fun z => c (of_decide_eq_true z).1))
    rw [qm_a0 (by omega), hw, decide_eq_false c]
end
section
variable {N : Nat} {wn : Int32} {sv : Nat → Nat} {ph st ov : Nat → Int32} {own : Nat}
theorem qm_xent1 (hN : N ≤ 9) (hw : ∀ m, m < 9 → bt wn m = decide (ph m = 1)) (hst : qm_rep st sv) (hs : ∀ i, sv i ≤ 999) (ho : own < 65536) :
    ∀ d i : Nat, i + d = N → ∀ {tp : Int32} {p : qm_PT} {qb ck hb rb lb en hk lk ll lw : Nat → Int32} {post : SX → Prop}, post (nI N, tp, wn, p.1, p.2.1, p.2.2.1, p.2.2.2.1, p.2.2.2.2.1, qb, ph, st, ck, hb, rb, lb, en, qm_inc ov (qm_wb ph sv own) N, hk, lk, ll, lw, p.2.2.2.2.2.1, p.2.2.2.2.2.2.1, p.2.2.2.2.2.2.2.1, p.2.2.2.2.2.2.2.2.1, p.2.2.2.2.2.2.2.2.2.1, p.2.2.2.2.2.2.2.2.2.2.1, p.2.2.2.2.2.2.2.2.2.2.2.1, p.2.2.2.2.2.2.2.2.2.2.2.2.1, p.2.2.2.2.2.2.2.2.2.2.2.2.2.1, p.2.2.2.2.2.2.2.2.2.2.2.2.2.2) → wX_enter_71 post (nI own) (nI N) tp wn p.1 p.2.1 p.2.2.1 p.2.2.2.1 p.2.2.2.2.1 (d + 1) (nI i) qb ph st ck hb rb lb en (qm_inc ov (qm_wb ph sv own) i) hk lk ll lw p.2.2.2.2.2.1 p.2.2.2.2.2.2.1 p.2.2.2.2.2.2.2.1 p.2.2.2.2.2.2.2.2.1 p.2.2.2.2.2.2.2.2.2.1 p.2.2.2.2.2.2.2.2.2.2.1 p.2.2.2.2.2.2.2.2.2.2.2.1 p.2.2.2.2.2.2.2.2.2.2.2.2.1 p.2.2.2.2.2.2.2.2.2.2.2.2.2.1 p.2.2.2.2.2.2.2.2.2.2.2.2.2.2
  | 0, i, hd => by
    have e : i = N := by omega
    subst e
    intros
    rename_i hp
    exact br_t (nI_le (Nat.le_refl _) (by omega)) hp
  | d + 1, i, hd => by
    have nle : ¬ nI N ≤ nI i := nI_ge (by omega) (by omega)
    have hi : vp_in (nI i) 9 := vp_in_nI (by omega) (by decide)
    have hc : (nI i).toNatClampNeg = i := nI_clamp (by omega)
    intros
    rename_i hp
    have ih := qm_xent1 hN hw hst hs ho d (i + 1) (by omega) hp
    refine br_f nle (qm_xwb (by omega) (hw i (by omega)) (hst i) (hs i) ho (fun c => ?_) (fun c => ?_))
    · rw [qm_inc_t c] at ih
      exact br_f (by decide) (And.intro hi (And.intro hi (nm_r (e' := upd (qm_inc ov (qm_wb ph sv own) i) i (qm_inc ov (qm_wb ph sv own) i i + 1)) (by rw [hc]) (nm_r (nI_1 _) ih))))
    · rw [qm_inc_f c] at ih
      exact br_t rfl (nm_r (nI_1 _) ih)
theorem qm_yent1 {r s : Nat} (hN : N ≤ 9) (hst : qm_rep st sv) (hs : ∀ i, sv i ≤ 999) (hr : r < 9) (hs9 : s ≤ 999) (hph : ¬ ph r = 1) (ho : own = 16 * s + r) :
    ∀ d i : Nat, i + d = N → ∀ {co tp : Int32} {y : qm_YT} {ck en sd lo ls wt re : Nat → Int32} {post : Int32 → SY → Prop}, post 7 (co, nI N, tp, y.1, ph, st, ck, en, qm_inc ov (qm_wb ph sv own) N, sd, lo, ls, wt, y.2.1, y.2.2.1, y.2.2.2.1, y.2.2.2.2, re) → wY_atRequester_87 post (nI r) (nI s) co (nI N) tp y.1 (d + 1) (nI i) ph st ck en (qm_inc ov (qm_wb ph sv own) i) sd lo ls wt y.2.1 y.2.2.1 y.2.2.2.1 y.2.2.2.2 re
  | 0, i, hd => by
    have e : i = N := by omega
    subst e
    intros
    rename_i hp
    exact br_t (nI_le (Nat.le_refl _) (by omega)) hp
  | d + 1, i, hd => by
    have nle : ¬ nI N ≤ nI i := nI_ge (by omega) (by omega)
    have hi : vp_in (nI i) 9 := vp_in_nI (by omega) (by decide)
    have hc : (nI i).toNatClampNeg = i := nI_clamp (by omega)
    intros
    rename_i hp
    have ih := qm_yent1 hN hst hs hr hs9 hph ho d (i + 1) (by omega) hp
    refine br_f nle ?_
    by_cases e : i = r
    · have c : ¬ qm_wb ph sv own i = true := fun z => hph (by rw [← e]; exact (of_decide_eq_true z).1)
      rw [qm_inc_f c] at ih
      exact br_t (by rw [e]) (nm_r (nI_1 _) ih)
    · refine br_f (by rw [nI_eq (by omega) (by omega)]; exact e) (And.intro hi ?_)
      by_cases c1 : ph i = 1
      · refine br_t (by rw [hc]; exact c1) (And.intro hi (qm_olderE (s := sv i) (n := i) (t := s) (m := r) (hs i) hs9 (by omega) hr (by rw [hc]; exact hst i) rfl rfl rfl (fun z => ?_) (fun z => ?_)))
        · have c : qm_wb ph sv own i = true := decide_eq_true ⟨c1, by omega⟩
          rw [qm_inc_t c] at ih
          exact br_f (by decide) (And.intro hi (And.intro hi (nm_r (e' := upd (qm_inc ov (qm_wb ph sv own) i) i (qm_inc ov (qm_wb ph sv own) i i + 1)) (by rw [hc]) (nm_r (nI_1 _) ih))))
        · have c : ¬ qm_wb ph sv own i = true := fun x => z (by have := (of_decide_eq_true x).2; omega)
          rw [qm_inc_f c] at ih
          exact br_t rfl (nm_r (nI_1 _) ih)
      · have c : ¬ qm_wb ph sv own i = true := fun z => c1 (of_decide_eq_true z).1
        rw [qm_inc_f c] at ih
        exact br_f (by rw [hc]; exact c1) (nm_r (nI_1 _) ih)
end
end
section
/-! the requester: onGrant, onInquire -/
section
variable {N W T : Nat} {sv cv sg w : Nat → Nat} {Q : List qm_M} {wn : Int32} {p : qm_PT} {y : qm_YT} {qb ph st ck hb rb lb en ov hk lk ll lw sd lo ls wt re : Nat → Int32}
variable {a r s : Nat}
theorem qm_ongrant (hG : qm_G N W T qb) (hR : qm_R sv cv wn ph st ck) (hS : qm_S N W sg sd hb rb lb) (hH : qm_H N W hk lo ls) (hW : qm_Wt N W w wt lk ll lw) (hP : qm_P N W Q p y) (ha : a < N) (hr : r < N) (hq : qm_q W r a = true) (hph : ph r = 1) (hsr : sv r = s) :
    qm_BB (fun post => wpX_onGrant post (nI N, nI T, wn, p.1, p.2.1, p.2.2.1, p.2.2.2.1, p.2.2.2.2.1, qb, ph, st, ck, hb, rb, lb, en, ov, hk, lk, ll, lw, p.2.2.2.2.2.1, p.2.2.2.2.2.2.1, p.2.2.2.2.2.2.2.1, p.2.2.2.2.2.2.2.2.1, p.2.2.2.2.2.2.2.2.2.1, p.2.2.2.2.2.2.2.2.2.2.1, p.2.2.2.2.2.2.2.2.2.2.2.1, p.2.2.2.2.2.2.2.2.2.2.2.2.1, p.2.2.2.2.2.2.2.2.2.2.2.2.2.1, p.2.2.2.2.2.2.2.2.2.2.2.2.2.2) (nI r) (nI a)) (fun post => wpY_atRequester post (nI W, nI N, nI T, y.1, ph, st, ck, en, ov, sd, lo, ls, wt, y.2.1, y.2.2.1, y.2.2.2.1, y.2.2.2.2, re) 2 (nI r) (nI a) (nI s)) := by
  obtain ⟨hW1, hW3, hN, hT, hQB⟩ := id hG
  obtain ⟨r1, r2, r3, r4, r5, r6⟩ := id hR
  have hr9 : r < 9 := by omega
  have hs9 : s ≤ 999 := by rw [← hsr]; exact r2 r
  have hir : vp_in (nI r) 9 := vp_in_nI hr9 (by decide)
  have hcr : (nI r).toNatClampNeg = r := nI_clamp (by omega)
  have ej : nI r * 9 + nI a = nI (r * 9 + a) := qm_idx
  have hij : vp_in (nI r * 9 + nI a) 81 := by rw [ej]; exact vp_in_nI (by omega) (by decide)
  have hcj : (nI r * 9 + nI a).toNatClampNeg = r * 9 + a := by rw [ej]; exact nI_clamp (by omega)
  have hst : st r = nI s := by rw [r1 r, hsr]
  have hSB := qm_SB_up (a := a) (v := 1) (xh := hb r ||| ((1 : Int32) <<< (nI a &&& 31))) (xr := rb r &&& (((1 : Int32) <<< (nI a &&& 31)) ^^^ (-1))) (xl := lb r &&& (((1 : Int32) <<< (nI a &&& 31)) ^^^ (-1))) hS.2 hr ha hN hq (by decide) (fun i hi => qm_b1if (by omega) hi rfl) (fun i hi => qm_b0if (by omega) hi rfl) (fun i hi => qm_b0if (by omega) hi rfl)
  have hrep : qm_rep (upd sd (r * 9 + a) (nI 1)) (qm_up sg (r * 9 + a) 1) := qm_rep_up hS.1 _ _
  have hfull := qm_full hSB hQB hr hN
  have hs3 : ∀ i, i < 9 → qm_up sg (r * 9 + a) 1 (r * 9 + i) ≤ 3 := fun i hi => (hSB.2 r hr9 i hi).1
  generalize ehb : upd hb r (hb r ||| ((1 : Int32) <<< (nI a &&& 31))) = hb1 at hSB hfull
  generalize erb : upd rb r (rb r &&& (((1 : Int32) <<< (nI a &&& 31)) ^^^ (-1))) = rb1 at hSB hfull
  generalize elb : upd lb r (lb r &&& (((1 : Int32) <<< (nI a &&& 31)) ^^^ (-1))) = lb1 at hSB
  generalize esg : qm_up sg (r * 9 + a) 1 = sg1 at hSB hfull hrep hs3
  generalize esd : upd sd (r * 9 + a) (nI 1) = sd1 at hrep
  by_cases c : ∀ m, m < N → qm_q W r m = true → sg1 (r * 9 + m) = 1 ∨ sg1 (r * 9 + m) = 2
  · have hph2 : ∀ i, upd ph r 2 i ≠ 0 → 1 ≤ sv i := by
      intro i hi
      by_cases e : i = r
      · rw [e]; exact r3 r (by rw [hph]; decide)
      · rw [pk_un e] at hi; exact r3 i hi
    have hwn : ∀ m, m < 9 → bt (wn &&& (((1 : Int32) <<< (nI r &&& 31)) ^^^ (-1))) m = decide (upd ph r 2 m = 1) := by
      intro m hm
      rw [qm_bcl (by omega) (by omega), r6 m hm]
      by_cases e : m = r
      · subst e
        rw [pk_us, decide_eq_true (rfl : m = m)]
        simp
      · rw [pk_un e, decide_eq_false e]
        simp
    obtain ⟨sd2, hsd2, wset⟩ := qm_yset hW1 hW3 hN hr9 1 hrep
    have hSB2 := qm_SB_sv (v := 1) (xh := qb r) hSB hr hN (by decide) (fun i hi => by rw [hQB r hr i hi]; simp)
    have hnp : ¬ upd ph r 2 r = 1 := by rw [pk_us]; decide
    refine ⟨7, (nI N, nI T, wn &&& (((1 : Int32) <<< (nI r &&& 31)) ^^^ (-1)), p.1, p.2.1, p.2.2.1, p.2.2.2.1, p.2.2.2.2.1, qb, upd ph r 2, st, ck, upd hb1 r (qb r), upd rb1 r 0, upd lb1 r 0, upd en r (en r + 1), qm_inc ov (qm_wb (upd ph r 2) sv (16 * s + r)) N, hk, lk, ll, lw, p.2.2.2.2.2.1, p.2.2.2.2.2.2.1, p.2.2.2.2.2.2.2.1, p.2.2.2.2.2.2.2.2.1, p.2.2.2.2.2.2.2.2.2.1, p.2.2.2.2.2.2.2.2.2.2.1, p.2.2.2.2.2.2.2.2.2.2.2.1, p.2.2.2.2.2.2.2.2.2.2.2.2.1, p.2.2.2.2.2.2.2.2.2.2.2.2.2.1, p.2.2.2.2.2.2.2.2.2.2.2.2.2.2), (nI W, nI N, nI T, y.1, upd ph r 2, st, ck, upd en r (en r + 1), qm_inc ov (qm_wb (upd ph r 2) sv (16 * s + r)) N, sd2, lo, ls, wt, y.2.1, y.2.2.1, y.2.2.2.1, y.2.2.2.2, re),
      qm_mk hG ⟨r1, r2, hph2, r4, r5, hwn⟩ ⟨hsd2, hSB2⟩ hH hW hP, fun post hp => ?_, fun post hp => ?_⟩
    · refine nm_e (And.intro hir (And.intro hir (nm_r (e' := hb1) (by rw [hcr]; exact ehb) (And.intro hir (And.intro hir (nm_r (e' := rb1) (by rw [hcr]; exact erb) (And.intro hir (And.intro hir (nm_r (e' := lb1) (by rw [hcr]; exact elb) (And.intro hir (And.intro hir (And.intro hir (br_t (by rw [hcr]; exact hfull.mpr c) ?_)))))))))))))
      refine And.intro hir (nm_r (e' := upd ph r 2) (by rw [hcr]) (nm_e (And.intro hir (And.intro hir (nm_r (e' := upd hb1 r (qb r)) (by rw [hcr]) (And.intro hir (nm_r (e' := upd rb1 r 0) (by rw [hcr]) (And.intro hir (nm_r (e' := upd lb1 r 0) (by rw [hcr]) (And.intro hir (And.intro hir (nm_r (e' := upd en r (en r + 1)) (by rw [hcr]) (And.intro hir ?_)))))))))))))
      refine qm_xkey (s := s) (n := r) hs9 (by omega) (by rw [hcr]; exact hst) rfl ?_
      exact ⟨_, qm_xent1 hN hwn r1 r2 (by omega) N 0 (by omega) hp⟩
    · refine And.intro hir (br_t (by rw [hcr]; exact hph) (And.intro hir (br_t (by rw [hcr]; exact hst) (br_t rfl (And.intro hij (nm_r (e' := sd1) (by rw [hcj]; exact esd) ?_))))))
      refine qm_ysome (v := 0) hW1 hW3 hN hr9 (by decide) hrep hs3 (fun ⟨m, h1, h2, h3⟩ => absurd (c m h1 h2) (by omega)) (fun _ => br_t rfl ?_)
      refine qm_ysome (v := 3) hW1 hW3 hN hr9 (by decide) hrep hs3 (fun ⟨m, h1, h2, h3⟩ => absurd (c m h1 h2) (by omega)) (fun _ => br_t rfl ?_)
      refine And.intro hir (nm_r (e' := upd ph r 2) (by rw [hcr]) (wset ?_))
      refine And.intro hir (And.intro hir (nm_r (e' := upd en r (en r + 1)) (by rw [hcr]) ?_))
      exact ⟨_, qm_yent1 hN r1 r2 hr9 hs9 hnp rfl N 0 (by omega) hp⟩
  · refine ⟨2, (nI N, nI T, wn, p.1, p.2.1, p.2.2.1, p.2.2.2.1, p.2.2.2.2.1, qb, ph, st, ck, hb1, rb1, lb1, en, ov, hk, lk, ll, lw, p.2.2.2.2.2.1, p.2.2.2.2.2.2.1, p.2.2.2.2.2.2.2.1, p.2.2.2.2.2.2.2.2.1, p.2.2.2.2.2.2.2.2.2.1, p.2.2.2.2.2.2.2.2.2.2.1, p.2.2.2.2.2.2.2.2.2.2.2.1, p.2.2.2.2.2.2.2.2.2.2.2.2.1, p.2.2.2.2.2.2.2.2.2.2.2.2.2.1, p.2.2.2.2.2.2.2.2.2.2.2.2.2.2), (nI W, nI N, nI T, y.1, ph, st, ck, en, ov, sd1, lo, ls, wt, y.2.1, y.2.2.1, y.2.2.2.1, y.2.2.2.2, re), qm_mk hG hR ⟨hrep, hSB⟩ hH hW hP, fun post hp => ?_, fun post hp => ?_⟩
    · exact nm_e (And.intro hir (And.intro hir (nm_r (e' := hb1) (by rw [hcr]; exact ehb) (And.intro hir (And.intro hir (nm_r (e' := rb1) (by rw [hcr]; exact erb) (And.intro hir (And.intro hir (nm_r (e' := lb1) (by rw [hcr]; exact elb) (And.intro hir (And.intro hir (And.intro hir (br_f (by rw [hcr]; exact fun z => c (hfull.mp z)) hp)))))))))))))
    · refine And.intro hir (br_t (by rw [hcr]; exact hph) (And.intro hir (br_t (by rw [hcr]; exact hst) (br_t rfl (And.intro hij (nm_r (e' := sd1) (by rw [hcj]; exact esd) ?_))))))
      refine qm_ysome (v := 0) hW1 hW3 hN hr9 (by decide) hrep hs3 (fun _ => br_f (by decide) hp) (fun n0 => br_t rfl ?_)
      refine qm_ysome (v := 3) hW1 hW3 hN hr9 (by decide) hrep hs3 (fun _ => br_f (by decide) hp) (fun n3 => absurd (fun m hm hq' => ?_) c)
      have k0 := n0 m hm hq'
      have k3 := n3 m hm hq'
      have k := hs3 m (by omega)
      omega
theorem qm_oninq (hG : qm_G N W T qb) (hR : qm_R sv cv wn ph st ck) (hS : qm_S N W sg sd hb rb lb) (hH : qm_H N W hk lo ls) (hW : qm_Wt N W w wt lk ll lw) (hP : qm_P N W Q p y) (ha : a < N) (hr : r < N) (hq : qm_q W r a = true) (hph : ph r = 1) (hsr : sv r = s) {k : Int32} (hk2 : ¬ k = 2) (hk3 : ¬ k = 3) :
    qm_BB (fun post => wpX_onInquire post (nI N, nI T, wn, p.1, p.2.1, p.2.2.1, p.2.2.2.1, p.2.2.2.2.1, qb, ph, st, ck, hb, rb, lb, en, ov, hk, lk, ll, lw, p.2.2.2.2.2.1, p.2.2.2.2.2.2.1, p.2.2.2.2.2.2.2.1, p.2.2.2.2.2.2.2.2.1, p.2.2.2.2.2.2.2.2.2.1, p.2.2.2.2.2.2.2.2.2.2.1, p.2.2.2.2.2.2.2.2.2.2.2.1, p.2.2.2.2.2.2.2.2.2.2.2.2.1, p.2.2.2.2.2.2.2.2.2.2.2.2.2.1, p.2.2.2.2.2.2.2.2.2.2.2.2.2.2) (nI r) (nI a)) (fun post => wpY_atRequester post (nI W, nI N, nI T, y.1, ph, st, ck, en, ov, sd, lo, ls, wt, y.2.1, y.2.2.1, y.2.2.2.1, y.2.2.2.2, re) k (nI r) (nI a) (nI s)) := by
  obtain ⟨hW1, hW3, hN, hT, hQB⟩ := id hG
  obtain ⟨r1, r2, r3, r4, r5, r6⟩ := id hR
  have hr9 : r < 9 := by omega
  have hs9 : s ≤ 999 := by rw [← hsr]; exact r2 r
  have hs1 : 1 ≤ s := by rw [← hsr]; exact r3 r (by rw [hph]; decide)
  have hir : vp_in (nI r) 9 := vp_in_nI hr9 (by decide)
  have hcr : (nI r).toNatClampNeg = r := nI_clamp (by omega)
  have ej : nI r * 9 + nI a = nI (r * 9 + a) := qm_idx
  have hij : vp_in (nI r * 9 + nI a) 81 := by rw [ej]; exact vp_in_nI (by omega) (by decide)
  have hcj : (nI r * 9 + nI a).toNatClampNeg = r * 9 + a := by rw [ej]; exact nI_clamp (by omega)
  have hst : st r = nI s := by rw [r1 r, hsr]
  have hs3 : ∀ i, i < 9 → sg (r * 9 + i) ≤ 3 := fun i hi => (hS.2.2 r hr9 i hi).1
  have hsa := hs3 a (by omega)
  have kb := hS.2.1 r hr9 a (by omega)
  have rd : sd (nI r * 9 + nI a).toNatClampNeg = nI (sg (r * 9 + a)) := by rw [hcj]; exact hS.1 _
  by_cases c1 : sg (r * 9 + a) = 1
  · have hb1 : ¬ (hb (nI r).toNatClampNeg &&& ((1 : Int32) <<< (nI a &&& 31))) = 0 := by
      rw [hcr, qm_a0 (by omega), kb.1, decide_eq_true (show a < 9 ∧ sg (r * 9 + a) = 1 from ⟨by omega, c1⟩)]
      decide
    have rd1 : sd (nI r * 9 + nI a).toNatClampNeg = 1 := by rw [rd, c1]; rfl
    have hlost := qm_lost0 hS.2 hr hN
    by_cases c2 : lb r = 0
    · have hSB := qm_SB_up (a := a) (v := 2) (xh := hb r &&& (((1 : Int32) <<< (nI a &&& 31)) ^^^ (-1))) (xr := rb r ||| ((1 : Int32) <<< (nI a &&& 31))) (xl := lb r) hS.2 hr ha hN hq (by decide) (fun i hi => qm_b0if (by omega) hi rfl) (fun i hi => qm_b1if (by omega) hi rfl) (fun i hi => qm_bsame (by rw [kb.2.2, c1]; simp))
      rw [qm_updsame] at hSB
      refine ⟨4, (nI N, nI T, wn, p.1, p.2.1, p.2.2.1, p.2.2.2.1, p.2.2.2.2.1, qb, ph, st, ck, upd hb r (hb r &&& (((1 : Int32) <<< (nI a &&& 31)) ^^^ (-1))), upd rb r (rb r ||| ((1 : Int32) <<< (nI a &&& 31))), lb, en, ov, hk, lk, ll, lw, p.2.2.2.2.2.1, p.2.2.2.2.2.2.1, p.2.2.2.2.2.2.2.1, p.2.2.2.2.2.2.2.2.1, p.2.2.2.2.2.2.2.2.2.1, p.2.2.2.2.2.2.2.2.2.2.1, p.2.2.2.2.2.2.2.2.2.2.2.1, p.2.2.2.2.2.2.2.2.2.2.2.2.1, p.2.2.2.2.2.2.2.2.2.2.2.2.2.1, p.2.2.2.2.2.2.2.2.2.2.2.2.2.2), (nI W, nI N, nI T, y.1, ph, st, ck, en, ov, upd sd (r * 9 + a) (nI 2), lo, ls, wt, y.2.1, y.2.2.1, y.2.2.2.1, y.2.2.2.2, re), qm_mk hG hR ⟨qm_rep_up hS.1 _ _, hSB⟩ hH hW hP, fun post hp => ?_, fun post hp => ?_⟩
      · exact nm_e (And.intro hir (br_f hb1 (And.intro hir (And.intro hir (nm_r (e' := upd hb r (hb r &&& (((1 : Int32) <<< (nI a &&& 31)) ^^^ (-1)))) (by rw [hcr]) (And.intro hir (br_t (by rw [hcr]; exact c2) (And.intro hir (And.intro hir (nm_r (e' := upd rb r (rb r ||| ((1 : Int32) <<< (nI a &&& 31)))) (by rw [hcr]) hp))))))))))
      · refine And.intro hir (br_t (by rw [hcr]; exact hph) (And.intro hir (br_t (by rw [hcr]; exact hst) (br_f hk2 (br_f hk3 (And.intro hij (br_t rd1 ?_)))))))
        refine qm_ysome (v := 3) hW1 hW3 hN hr9 (by decide) hS.1 hs3 (fun ⟨m, h1, h2, h3⟩ => absurd h3 (hlost.mp c2 m h1 h2)) (fun _ => br_t rfl ?_)
        exact And.intro hij (nm_r (e' := upd sd (r * 9 + a) (nI 2)) (by rw [hcj]; rfl) hp)
    · have hSB := qm_SB_up (a := a) (v := 3) (xh := hb r &&& (((1 : Int32) <<< (nI a &&& 31)) ^^^ (-1))) (xr := rb r) (xl := lb r ||| ((1 : Int32) <<< (nI a &&& 31))) hS.2 hr ha hN hq (by decide) (fun i hi => qm_b0if (by omega) hi rfl) (fun i hi => qm_bsame (by rw [kb.2.1, c1]; simp)) (fun i hi => qm_b1if (by omega) hi rfl)
      rw [qm_updsame] at hSB
      obtain ⟨p', y', hP', wX, wY⟩ := qm_send2 hN hP 5 r a s (qm_OKi (by decide) (by decide) hr ha hq hs1 hs9)
      refine ⟨4, (nI N, nI T, wn, p'.1, p'.2.1, p'.2.2.1, p'.2.2.2.1, p'.2.2.2.2.1, qb, ph, st, ck, upd hb r (hb r &&& (((1 : Int32) <<< (nI a &&& 31)) ^^^ (-1))), rb, upd lb r (lb r ||| ((1 : Int32) <<< (nI a &&& 31))), en, ov, hk, lk, ll, lw, p'.2.2.2.2.2.1, p'.2.2.2.2.2.2.1, p'.2.2.2.2.2.2.2.1, p'.2.2.2.2.2.2.2.2.1, p'.2.2.2.2.2.2.2.2.2.1, p'.2.2.2.2.2.2.2.2.2.2.1, p'.2.2.2.2.2.2.2.2.2.2.2.1, p'.2.2.2.2.2.2.2.2.2.2.2.2.1, p'.2.2.2.2.2.2.2.2.2.2.2.2.2.1, p'.2.2.2.2.2.2.2.2.2.2.2.2.2.2), (nI W, nI N, nI T, y'.1, ph, st, ck, en, ov, upd sd (r * 9 + a) (nI 3), lo, ls, wt, y'.2.1, y'.2.2.1, y'.2.2.2.1, y'.2.2.2.2, re), qm_mk hG hR ⟨qm_rep_up hS.1 _ _, hSB⟩ hH hW hP', fun post hp => ?_, fun post hp => ?_⟩
      · refine nm_e (And.intro hir (br_f hb1 (And.intro hir (And.intro hir (nm_r (e' := upd hb r (hb r &&& (((1 : Int32) <<< (nI a &&& 31)) ^^^ (-1)))) (by rw [hcr]) (And.intro hir (br_f (by rw [hcr]; exact c2) (And.intro hir (And.intro hir (nm_r (e' := upd lb r (lb r ||| ((1 : Int32) <<< (nI a &&& 31)))) (by rw [hcr]) (And.intro hir ?_)))))))))))
        exact wX rfl (by rw [hcr]; exact hst) hp
      · refine And.intro hir (br_t (by rw [hcr]; exact hph) (And.intro hir (br_t (by rw [hcr]; exact hst) (br_f hk2 (br_f hk3 (And.intro hij (br_t rd1 ?_)))))))
        refine qm_ysome (v := 3) hW1 hW3 hN hr9 (by decide) hS.1 hs3 (fun _ => br_f (by decide) ?_) (fun z => absurd (hlost.mpr z) c2)
        exact And.intro hij (nm_r (e' := upd sd (r * 9 + a) (nI 3)) (by rw [hcj]; rfl) (wY rfl rfl hp))
  · refine ⟨8, _, _, qm_mk (en := en) (ov := ov) (re := re) hG hR hS hH hW hP, fun post hp => ?_, fun post hp => ?_⟩
    · refine nm_e (And.intro hir (br_t ?_ hp))
      rw [hcr, qm_a0 (by omega), kb.1]
      exact decide_eq_false (fun z => c1 z.2)
    · refine And.intro hir (br_t (by rw [hcr]; exact hph) (And.intro hir (br_t (by rw [hcr]; exact hst) (br_f hk2 (br_f hk3 (And.intro hij (br_f ?_ hp)))))))
      rw [rd]
      show ¬ nI (sg (r * 9 + a)) = nI 1
      rw [nI_eq (by omega) (by omega)]
      exact c1
end
end
section
/-! the requester: onFailed -/
/-- the recalled ones of r's quorum below i are lost -/
def qm_f3 (i W r : Nat) (sg : Nat → Nat) : Nat → Nat := fun j => if j / 9 = r ∧ j % 9 < i ∧ qm_q W r (j % 9) = true ∧ sg j = 2 then 3 else sg j
theorem qm_f3_at {i W r n a : Nat} {sg : Nat → Nat} (ha : a < 9) : qm_f3 i W r sg (n * 9 + a) = if n = r ∧ a < i ∧ qm_q W r a = true ∧ sg (n * 9 + a) = 2 then 3 else sg (n * 9 + a) := by
  unfold qm_f3
  rw [show (n * 9 + a) / 9 = n from by omega, show (n * 9 + a) % 9 = a from by omega]
theorem qm_f3_0 {W r : Nat} {sg : Nat → Nat} : qm_f3 0 W r sg = sg := by
  funext j
  unfold qm_f3
  rw [if_neg (by omega)]
theorem qm_f3_self {i W r : Nat} {sg : Nat → Nat} (hi : i < 9) : qm_f3 i W r sg (r * 9 + i) = sg (r * 9 + i) := by
  rw [qm_f3_at hi, if_neg (by omega)]
theorem qm_f3_t {i W r : Nat} {sg : Nat → Nat} (hi : i < 9) (hq : qm_q W r i = true) (h2 : sg (r * 9 + i) = 2) : qm_f3 (i + 1) W r sg = qm_up (qm_f3 i W r sg) (r * 9 + i) 3 := by
  funext j
  by_cases e : j = r * 9 + i
  · subst e
    rw [qm_us, qm_f3_at hi, if_pos ⟨rfl, by omega, hq, h2⟩]
  · rw [qm_un e]
    unfold qm_f3
    by_cases c : j / 9 = r ∧ j % 9 < i ∧ qm_q W r (j % 9) = true ∧ sg j = 2
    · rw [if_pos c, if_pos ⟨c.1, by omega, c.2.2⟩]
    · rw [if_neg c, if_neg]
      intro h
      apply c
      refine ⟨h.1, ?_, h.2.2⟩
      omega
theorem qm_f3_f {i W r : Nat} {sg : Nat → Nat} (h2 : ¬ (qm_q W r i = true ∧ sg (r * 9 + i) = 2)) : qm_f3 (i + 1) W r sg = qm_f3 i W r sg := by
  funext j
  unfold qm_f3
  by_cases c : j / 9 = r ∧ j % 9 < i ∧ qm_q W r (j % 9) = true ∧ sg j = 2
  · rw [if_pos c, if_pos ⟨c.1, by omega, c.2.2⟩]
  · rw [if_neg c, if_neg]
    intro h
    apply c
    refine ⟨h.1, ?_, h.2.2⟩
    rcases Nat.lt_or_ge (j % 9) i with z | z
    · exact z
    · have e1 : j % 9 = i := by omega
      have e2 : j = r * 9 + i := by omega
      rw [e1] at h
      rw [e2] at h
      exact absurd h.2.2 h2
def qm_rc (W r : Nat) (sg : Nat → Nat) : Nat → Bool := fun b => qm_q W r b && sg (r * 9 + b) == 2
theorem qm_rc_iff {W r b : Nat} {sg : Nat → Nat} : qm_rc W r sg b = true ↔ qm_q W r b = true ∧ sg (r * 9 + b) = 2 := by
  unfold qm_rc
  rw [Bool.and_eq_true, beq_iff_eq]
section
variable {N W T : Nat} {sv cv sg w : Nat → Nat} {Q : List qm_M} {wn : Int32} {p : qm_PT} {y : qm_YT} {qb ph st ck hb rb lb en ov hk lk ll lw sd lo ls wt re : Nat → Int32}
variable {a r s : Nat}
theorem qm_y172 (h1 : 1 ≤ W) (h3 : W ≤ 3) (hN : N ≤ 9) (hr : r < 9) (hs3 : ∀ i, i < 9 → sg (r * 9 + i) ≤ 3) :
    ∀ (d i : Nat) (sd : Nat → Int32) (y : qm_YT), i + d = N → qm_rep sd (qm_f3 i W r sg) → qm_PY (qm_sa Q (qm_rc W r sg) 5 r s i) y →
      ∃ sd' y', qm_rep sd' (qm_f3 N W r sg) ∧ qm_PY (qm_sa Q (qm_rc W r sg) 5 r s N) y' ∧ ∀ {tp : Int32} {ph st ck en ov lo ls wt re : Nat → Int32} {post : Int32 → SY → Prop}, post 3 (nI W, nI N, tp, y'.1, ph, st, ck, en, ov, sd', lo, ls, wt, y'.2.1, y'.2.2.1, y'.2.2.2.1, y'.2.2.2.2, re) → wY_atRequester_172 post (nI r) (nI s) (d + 1) (nI i) (nI W) (nI N) tp y.1 ph st ck en ov sd lo ls wt y.2.1 y.2.2.1 y.2.2.2.1 y.2.2.2.2 re
  | 0, i, sd, y, hd, hrep, hy => by
    have e : i = N := by omega
    subst e
    exact ⟨sd, y, hrep, hy, fun hp => br_t (nI_le (Nat.le_refl _) (by omega)) hp⟩
  | d + 1, i, sd, y, hd, hrep, hy => by
    have nle : ¬ nI N ≤ nI i := nI_ge (by omega) (by omega)
    have ej : nI r * 9 + nI i = nI (r * 9 + i) := qm_idx
    have hij : vp_in (nI r * 9 + nI i) 81 := by rw [ej]; exact vp_in_nI (by omega) (by decide)
    have hcj : (nI r * 9 + nI i).toNatClampNeg = r * 9 + i := by rw [ej]; exact nI_clamp (by omega)
    have rd : sd (nI r * 9 + nI i).toNatClampNeg = nI (sg (r * 9 + i)) := by rw [hcj, hrep, qm_f3_self (by omega)]
    have h9 := hs3 i (by omega)
    by_cases c : qm_rc W r sg i = true
    · have c' := qm_rc_iff.mp c
      obtain ⟨y1, hy1, w1⟩ := qm_ysend hy 5 r i s
      obtain ⟨sd', y', q1, q2, w2⟩ := qm_y172 h1 h3 hN hr hs3 d (i + 1) (upd sd (r * 9 + i) (nI 3)) y1 (by omega) (by rw [qm_f3_t (by omega) c'.1 c'.2]; exact qm_rep_up hrep _ _) (by simp only [qm_sa]; rw [if_pos c]; exact hy1)
      refine ⟨sd', y', q1, q2, fun hp => br_f nle (qm_yinq h1 h3 hr (by omega) (fun _ => br_f (by decide) (And.intro hij (br_t (by rw [rd, c'.2]; rfl) (And.intro hij (nm_r (e' := upd sd (r * 9 + i) (nI 3)) (by rw [hcj]; rfl) ?_))))) (fun z => absurd c'.1 z))⟩
      exact w1 (nm_r (nI_1 _) (w2 hp))
    · have c' : ¬ (qm_q W r i = true ∧ sg (r * 9 + i) = 2) := fun z => c (qm_rc_iff.mpr z)
      obtain ⟨sd', y', q1, q2, w2⟩ := qm_y172 h1 h3 hN hr hs3 d (i + 1) sd y (by omega) (by rw [qm_f3_f c']; exact hrep) (by simp only [qm_sa]; rw [if_neg c]; exact hy)
      refine ⟨sd', y', q1, q2, fun hp => br_f nle (qm_yinq h1 h3 hr (by omega) (fun cq => br_f (by decide) (And.intro hij (br_f ?_ (nm_r (nI_1 _) (w2 hp))))) (fun _ => br_t rfl (nm_r (nI_1 _) (w2 hp))))⟩
      rw [rd]
      show ¬ nI (sg (r * 9 + i)) = nI 2
      rw [nI_eq (by omega) (by omega)]
      exact fun z => c' ⟨cq, z⟩
theorem qm_onfail (hG : qm_G N W T qb) (hR : qm_R sv cv wn ph st ck) (hS : qm_S N W sg sd hb rb lb) (hH : qm_H N W hk lo ls) (hW : qm_Wt N W w wt lk ll lw) (hP : qm_P N W Q p y) (ha : a < N) (hr : r < N) (hq : qm_q W r a = true) (hph : ph r = 1) (hsr : sv r = s) :
    qm_BB (fun post => wpX_onFailed post (nI N, nI T, wn, p.1, p.2.1, p.2.2.1, p.2.2.2.1, p.2.2.2.2.1, qb, ph, st, ck, hb, rb, lb, en, ov, hk, lk, ll, lw, p.2.2.2.2.2.1, p.2.2.2.2.2.2.1, p.2.2.2.2.2.2.2.1, p.2.2.2.2.2.2.2.2.1, p.2.2.2.2.2.2.2.2.2.1, p.2.2.2.2.2.2.2.2.2.2.1, p.2.2.2.2.2.2.2.2.2.2.2.1, p.2.2.2.2.2.2.2.2.2.2.2.2.1, p.2.2.2.2.2.2.2.2.2.2.2.2.2.1, p.2.2.2.2.2.2.2.2.2.2.2.2.2.2) (nI r) (nI a)) (fun post => wpY_atRequester post (nI W, nI N, nI T, y.1, ph, st, ck, en, ov, sd, lo, ls, wt, y.2.1, y.2.2.1, y.2.2.2.1, y.2.2.2.2, re) 3 (nI r) (nI a) (nI s)) := by
  obtain ⟨hW1, hW3, hN, hT, hQB⟩ := id hG
  obtain ⟨r1, r2, r3, r4, r5, r6⟩ := id hR
  have hr9 : r < 9 := by omega
  have ha9 : a < 9 := by omega
  have hs9 : s ≤ 999 := by rw [← hsr]; exact r2 r
  have hs1 : 1 ≤ s := by rw [← hsr]; exact r3 r (by rw [hph]; decide)
  have hir : vp_in (nI r) 9 := vp_in_nI hr9 (by decide)
  have hcr : (nI r).toNatClampNeg = r := nI_clamp (by omega)
  have ej : nI r * 9 + nI a = nI (r * 9 + a) := qm_idx
  have hij : vp_in (nI r * 9 + nI a) 81 := by rw [ej]; exact vp_in_nI (by omega) (by decide)
  have hcj : (nI r * 9 + nI a).toNatClampNeg = r * 9 + a := by rw [ej]; exact nI_clamp (by omega)
  have hst : st r = nI s := by rw [r1 r, hsr]
  have s1a : ∀ i, i < 9 → qm_up sg (r * 9 + a) 3 (r * 9 + i) = if i = a then 3 else sg (r * 9 + i) := by
    intro i hi
    by_cases e : i = a
    · rw [if_pos e, e, qm_us]
    · rw [if_neg e, qm_un9 ha9 hi (Or.inr e)]
  have sup := hS.2.2 r hr9
  have hs3 : ∀ i, i < 9 → qm_up sg (r * 9 + a) 3 (r * 9 + i) ≤ 3 := by
    intro i hi
    have := (sup i hi).1
    rw [s1a i hi]
    split <;> omega
  have s2a : ∀ i, i < 9 → qm_f3 N W r (qm_up sg (r * 9 + a) 3) (r * 9 + i) = if i = a then 3 else if sg (r * 9 + i) = 2 then 3 else sg (r * 9 + i) := by
    intro i hi
    rw [qm_f3_at hi, s1a i hi]
    by_cases e : i = a
    · rw [if_pos e, if_neg (by omega), if_pos e]
    · rw [if_neg e, if_neg e]
      by_cases e2 : sg (r * 9 + i) = 2
      · have k := (sup i hi).2 (by omega)
        rw [if_pos ⟨rfl, k.2.1, k.2.2, e2⟩, if_pos e2]
      · rw [if_neg (fun z => e2 z.2.2.2), if_neg e2]
  have hrc : ∀ i, i < N → bt (rb r &&& (((1 : Int32) <<< (nI a &&& 31)) ^^^ (-1))) i = qm_rc W r (qm_up sg (r * 9 + a) 3) i := by
    intro i hi
    rw [qm_bcl (by omega) (by omega), (hS.2.1 r hr9 i (by omega)).2.1, Bool.eq_iff_iff, qm_rc_iff, s1a i (by omega)]
    simp only [Bool.and_eq_true, decide_eq_true_eq, Bool.not_eq_true', decide_eq_false_iff_not]
    constructor
    · intro ⟨⟨_, k1⟩, k2⟩
      rw [if_neg k2]
      exact ⟨((sup i (by omega)).2 (by omega)).2.2, k1⟩
    · intro ⟨k1, k2⟩
      by_cases e : i = a
      · rw [if_pos e] at k2; omega
      · rw [if_neg e] at k2
        exact ⟨⟨by omega, k2⟩, e⟩
  have hSB : qm_SB N W (qm_f3 N W r (qm_up sg (r * 9 + a) 3)) (upd hb r (hb r &&& (((1 : Int32) <<< (nI a &&& 31)) ^^^ (-1)))) (upd rb r 0) (upd lb r (lb r ||| (((1 : Int32) <<< (nI a &&& 31)) ||| (rb r &&& (((1 : Int32) <<< (nI a &&& 31)) ^^^ (-1)))))) := by
    refine qm_SB_row hS.2 (fun n i hn hi e => ?_) (fun i hi => ?_) (fun i hi => ?_)
    · rw [qm_f3_at hi, if_neg (fun z => e z.1), qm_un9 ha9 hi (Or.inl e)]
    · have k := hS.2.1 r hr9 i hi
      rw [qm_bcl (by omega) hi, b_0, b_or, b_or, qm_b1 (by omega) hi, qm_bcl (by omega) hi, k.1, k.2.1, k.2.2]
      by_cases i9 : i < 9
      · rw [s2a i i9]
        have k3 := (sup i i9).1
        by_cases e : i = a
        · rw [if_pos e]
          simp [e, ha9]
        · rw [if_neg e]
          by_cases e2 : sg (r * 9 + i) = 2
          · rw [if_pos e2]
            simp [e, i9, e2]
          · rw [if_neg e2]
            simp [e, i9, e2]
      · have e : ¬ i = a := by omega
        simp [i9, e]
    · rw [s2a i hi]
      have k3 := sup i hi
      by_cases e : i = a
      · rw [if_pos e]
        exact ⟨by omega, fun _ => ⟨hr, by omega, by rw [e]; exact hq⟩⟩
      · rw [if_neg e]
        by_cases e2 : sg (r * 9 + i) = 2
        · rw [if_pos e2]
          exact ⟨by omega, fun _ => k3.2 (by omega)⟩
        · rw [if_neg e2]; exact k3
  obtain ⟨p', hp', wX⟩ := qm_xall (k := 5) (f := r) (s := s) hN hr9 hrc hP.1
  obtain ⟨sd', y', q1, q2, wY⟩ := qm_y172 (Q := Q) (s := s) hW1 hW3 hN hr9 hs3 N 0 (upd sd (r * 9 + a) (nI 3)) y (by omega) (by rw [qm_f3_0]; exact qm_rep_up hS.1 _ _) hP.2.1
  have hP' : qm_P N W (qm_sa Q (qm_rc W r (qm_up sg (r * 9 + a) 3)) 5 r s N) p' y' := ⟨hp', q2, qm_QO_sa hP.2.2 (fun j hj hc => qm_OKi (by decide) (by decide) hr (by omega) (qm_rc_iff.mp hc).1 hs1 hs9)⟩
  refine ⟨3, (nI N, nI T, wn, p'.1, p'.2.1, p'.2.2.1, p'.2.2.2.1, p'.2.2.2.2.1, qb, ph, st, ck, upd hb r (hb r &&& (((1 : Int32) <<< (nI a &&& 31)) ^^^ (-1))), upd rb r 0, upd lb r (lb r ||| (((1 : Int32) <<< (nI a &&& 31)) ||| (rb r &&& (((1 : Int32) <<< (nI a &&& 31)) ^^^ (-1))))), en, ov, hk, lk, ll, lw, p'.2.2.2.2.2.1, p'.2.2.2.2.2.2.1, p'.2.2.2.2.2.2.2.1, p'.2.2.2.2.2.2.2.2.1, p'.2.2.2.2.2.2.2.2.2.1, p'.2.2.2.2.2.2.2.2.2.2.1, p'.2.2.2.2.2.2.2.2.2.2.2.1, p'.2.2.2.2.2.2.2.2.2.2.2.2.1, p'.2.2.2.2.2.2.2.2.2.2.2.2.2.1, p'.2.2.2.2.2.2.2.2.2.2.2.2.2.2), (nI W, nI N, nI T, y'.1, ph, st, ck, en, ov, sd', lo, ls, wt, y'.2.1, y'.2.2.1, y'.2.2.2.1, y'.2.2.2.2, re), qm_mk hG hR ⟨q1, hSB⟩ hH hW hP', fun post hp => ?_, fun post hp => ?_⟩
  · refine nm_e (And.intro hir (And.intro hir (nm_r (e' := upd hb r (hb r &&& (((1 : Int32) <<< (nI a &&& 31)) ^^^ (-1)))) (by rw [hcr]) (And.intro hir (And.intro hir (nm_r (e' := upd rb r (rb r &&& (((1 : Int32) <<< (nI a &&& 31)) ^^^ (-1)))) (by rw [hcr]) (And.intro hir (nm_r (e' := rb r &&& (((1 : Int32) <<< (nI a &&& 31)) ^^^ (-1))) (by rw [hcr]; exact pk_us) (And.intro hir (nm_r (e' := upd rb r 0) (by rw [hcr]; exact qm_upup) (And.intro hir (And.intro hir (nm_r (e' := upd lb r (lb r ||| (((1 : Int32) <<< (nI a &&& 31)) ||| (rb r &&& (((1 : Int32) <<< (nI a &&& 31)) ^^^ (-1)))))) (by rw [hcr]) (And.intro hir ?_))))))))))))))
    rw [hcr, hst]
    exact wX hp
  · refine And.intro hir (br_t (by rw [hcr]; exact hph) (And.intro hir (br_t (by rw [hcr]; exact hst) (br_f (by decide) (br_t rfl (And.intro hij (nm_r (e' := upd sd (r * 9 + a) (nI 3)) (by rw [hcj]; rfl) ?_)))))))
    exact ⟨_, wY hp⟩
end
end
section
/-! deliverSlot against deliverAt -/
section
variable {N W T : Nat} {sv cv sg w : Nat → Nat} {Q : List qm_M} {wn : Int32} {p : qm_PT} {y : qm_YT} {qb ph st ck hb rb lb en ov hk lk ll lw sd lo ls wt re : Nat → Int32}
theorem qm_d70 {k f t s : Nat} (hG : qm_G N W T qb) (hR : qm_R sv cv wn ph st ck) (hS : qm_S N W sg sd hb rb lb) (hH : qm_H N W hk lo ls) (hW : qm_Wt N W w wt lk ll lw) (hP : qm_P N W Q p y) (ho : qm_OK N W (k, f, t, s)) :
    qm_BB (fun post => wX_deliverSlot_70 post (nI k) (nI f) (nI t) (nI s) (nI N) (nI T) wn p.1 p.2.1 p.2.2.1 p.2.2.2.1 p.2.2.2.2.1 qb ph st ck hb rb lb en ov hk lk ll lw p.2.2.2.2.2.1 p.2.2.2.2.2.2.1 p.2.2.2.2.2.2.2.1 p.2.2.2.2.2.2.2.2.1 p.2.2.2.2.2.2.2.2.2.1 p.2.2.2.2.2.2.2.2.2.2.1 p.2.2.2.2.2.2.2.2.2.2.2.1 p.2.2.2.2.2.2.2.2.2.2.2.2.1 p.2.2.2.2.2.2.2.2.2.2.2.2.2.1 p.2.2.2.2.2.2.2.2.2.2.2.2.2.2) (fun post => wY_deliverAt_160 post (nI k) (nI f) (nI t) (nI s) (nI W) (nI N) (nI T) y.1 ph st ck en ov sd lo ls wt y.2.1 y.2.2.1 y.2.2.2.1 y.2.2.2.2 re) := by
  obtain ⟨hk1, hk6, hf, ht, hq, hs1, hs9⟩ := ho
  have hk1 : 1 ≤ k := hk1
  have hk6 : k ≤ 6 := hk6
  have hf : f < N := hf
  have ht : t < N := ht
  have hq : qm_q W f t = true := hq
  have hs1 : 1 ≤ s := hs1
  have hs9 : s ≤ 999 := hs9
  have hN := hG.2.2.1
  have hit : vp_in (nI t) 9 := vp_in_nI (by omega) (by decide)
  have hct : (nI t).toNatClampNeg = t := nI_clamp (by omega)
  by_cases c1 : k = 1
  · subst c1
    obtain ⟨r, u', v', hrel, wX, wY⟩ := qm_onreq (en := en) (ov := ov) (re := re) hG hR hS hH hW hP ht hf hq hs1 hs9
    exact ⟨r, u', v', hrel, fun post hp => br_t rfl (wX _ hp), fun post hp => br_t rfl (wY _ hp)⟩
  by_cases c5 : k = 5
  · subst c5
    obtain ⟨r, u', v', hrel, wX, wY⟩ := qm_ret5 (en := en) (ov := ov) (re := re) hG hR hS hH hW hP ht hf hq hs1 hs9
    refine ⟨r, u', v', hrel, fun post hp => br_f (by decide) (br_t rfl (wX _ hp)), fun post hp => br_f (by decide) (br_t rfl ?_)⟩
    unfold wY_deliverAt_186
    exact wY _ hp
  by_cases c6 : k = 6
  · subst c6
    obtain ⟨r, u', v', hrel, wX, wY⟩ := qm_ret6 (en := en) (ov := ov) (re := re) hG hR hS hH hW hP ht hf hs9
    refine ⟨r, u', v', hrel, fun post hp => br_f (by decide) (br_f (by decide) (br_t rfl (wX _ hp))), fun post hp => br_f (by decide) (br_f (by decide) (br_t rfl ?_))⟩
    unfold wY_deliverAt_186
    exact wY _ hp
  have n1 : ¬ nI k = 1 := by
    show ¬ nI k = nI 1
    rw [nI_eq (by omega) (by omega)]; exact c1
  have n5 : ¬ nI k = 5 := by
    show ¬ nI k = nI 5
    rw [nI_eq (by omega) (by omega)]; exact c5
  have n6 : ¬ nI k = 6 := by
    show ¬ nI k = nI 6
    rw [nI_eq (by omega) (by omega)]; exact c6
  by_cases cp : ph t = 1
  · have hqs := qm_q_symm hq
    by_cases cs : sv t = s
    · have hst : st t = nI s := by rw [hR.1 t, cs]
      by_cases c2 : k = 2
      · subst c2
        obtain ⟨r, u', v', hrel, wX, wY⟩ := qm_ongrant (en := en) (ov := ov) (re := re) hG hR hS hH hW hP hf ht hqs cp cs
        exact ⟨r, u', v', hrel, fun post hp => br_f n1 (br_f n5 (br_f n6 (And.intro hit (br_t (by rw [hct]; exact cp) (And.intro hit (br_t (by rw [hct]; exact hst) (br_t rfl (wX _ hp)))))))), fun post hp => br_f n1 (br_f n5 (br_f n6 (wY _ hp)))⟩
      by_cases c3 : k = 3
      · subst c3
        obtain ⟨r, u', v', hrel, wX, wY⟩ := qm_onfail (en := en) (ov := ov) (re := re) hG hR hS hH hW hP hf ht hqs cp cs
        exact ⟨r, u', v', hrel, fun post hp => br_f n1 (br_f n5 (br_f n6 (And.intro hit (br_t (by rw [hct]; exact cp) (And.intro hit (br_t (by rw [hct]; exact hst) (br_f (by decide) (br_t rfl (wX _ hp))))))))), fun post hp => br_f n1 (br_f n5 (br_f n6 (wY _ hp)))⟩
      have n2 : ¬ nI k = 2 := by
        show ¬ nI k = nI 2
        rw [nI_eq (by omega) (by omega)]; exact c2
      have n3 : ¬ nI k = 3 := by
        show ¬ nI k = nI 3
        rw [nI_eq (by omega) (by omega)]; exact c3
      obtain ⟨r, u', v', hrel, wX, wY⟩ := qm_oninq (en := en) (ov := ov) (re := re) hG hR hS hH hW hP hf ht hqs cp cs n2 n3
      exact ⟨r, u', v', hrel, fun post hp => br_f n1 (br_f n5 (br_f n6 (And.intro hit (br_t (by rw [hct]; exact cp) (And.intro hit (br_t (by rw [hct]; exact hst) (br_f n2 (br_f n3 (wX _ hp))))))))), fun post hp => br_f n1 (br_f n5 (br_f n6 (wY _ hp)))⟩
    · have hst : ¬ st (nI t).toNatClampNeg = nI s := by
        have h9 := hR.2.1 t
        rw [hct, hR.1 t, nI_eq (by omega) (by omega)]
        exact cs
      exact ⟨8, _, _, qm_mk (en := en) (ov := ov) (re := re) hG hR hS hH hW hP, fun post hp => br_f n1 (br_f n5 (br_f n6 (And.intro hit (br_t (by rw [hct]; exact cp) (And.intro hit (br_f hst hp)))))), fun post hp => br_f n1 (br_f n5 (br_f n6 (And.intro hit (br_t (by rw [hct]; exact cp) (And.intro hit (br_f hst hp))))))⟩
  · exact ⟨8, _, _, qm_mk (en := en) (ov := ov) (re := re) hG hR hS hH hW hP, fun post hp => br_f n1 (br_f n5 (br_f n6 (And.intro hit (br_f (by rw [hct]; exact cp) hp)))), fun post hp => br_f n1 (br_f n5 (br_f n6 (And.intro hit (br_f (by rw [hct]; exact cp) hp))))⟩
theorem qm_clk {t s : Nat} (r4 : qm_rep ck cv) (r5 : ∀ i, cv i ≤ 999) (hs : s ≤ 999) : ∃ ck' cv', ((nI s ≤ ck t ∧ ck' = ck) ∨ (¬ nI s ≤ ck t ∧ ck' = upd ck t (nI s))) ∧ qm_rep ck' cv' ∧ ∀ i, cv' i ≤ 999 := by
  by_cases c : nI s ≤ ck t
  · exact ⟨ck, cv, Or.inl ⟨c, rfl⟩, r4, r5⟩
  · refine ⟨upd ck t (nI s), qm_up cv t s, Or.inr ⟨c, rfl⟩, qm_rep_up r4 _ _, fun i => ?_⟩
    by_cases e : i = t
    · rw [e, qm_us]; exact hs
    · rw [qm_un e]; exact r5 i
/-- the place s of the flight, a front -/
theorem qm_dslot {A B F : List Nat} {s : Nat} {g : Nat → qm_M} (hG : qm_G N W T qb) (hR : qm_R sv cv wn ph st ck) (hS : qm_S N W sg sd hb rb lb) (hH : qm_H N W hk lo ls) (hW : qm_Wt N W w wt lk ll lw)
    (hL : qm_PL (A ++ s :: B) F g p.1 p.2.1 p.2.2.1 p.2.2.2.1 p.2.2.2.2.1 p.2.2.2.2.2.1 p.2.2.2.2.2.2.1 p.2.2.2.2.2.2.2.1 p.2.2.2.2.2.2.2.2.1 p.2.2.2.2.2.2.2.2.2.1 p.2.2.2.2.2.2.2.2.2.2.1 p.2.2.2.2.2.2.2.2.2.2.2.1 p.2.2.2.2.2.2.2.2.2.2.2.2.1 p.2.2.2.2.2.2.2.2.2.2.2.2.2.1 p.2.2.2.2.2.2.2.2.2.2.2.2.2.2)
    (hY : qm_PY ((A ++ s :: B).map g) y) (hO : qm_QO N W ((A ++ s :: B).map g)) (hfr : qm_fl g (qm_mc (g s)) A = []) :
    qm_BB (fun post => wpX_deliverSlot post (nI N, nI T, wn, p.1, p.2.1, p.2.2.1, p.2.2.2.1, p.2.2.2.2.1, qb, ph, st, ck, hb, rb, lb, en, ov, hk, lk, ll, lw, p.2.2.2.2.2.1, p.2.2.2.2.2.2.1, p.2.2.2.2.2.2.2.1, p.2.2.2.2.2.2.2.2.1, p.2.2.2.2.2.2.2.2.2.1, p.2.2.2.2.2.2.2.2.2.2.1, p.2.2.2.2.2.2.2.2.2.2.2.1, p.2.2.2.2.2.2.2.2.2.2.2.2.1, p.2.2.2.2.2.2.2.2.2.2.2.2.2.1, p.2.2.2.2.2.2.2.2.2.2.2.2.2.2) (nI s)) (fun post => wpY_deliverAt post (nI W, nI N, nI T, y.1, ph, st, ck, en, ov, sd, lo, ls, wt, y.2.1, y.2.2.1, y.2.2.2.1, y.2.2.2.2, re) (nI A.length)) := by
  have hN := hG.2.2.1
  have ho := hO (g s) (List.mem_map.mpr ⟨s, by simp, rfl⟩)
  have hs : s < 200 := hL.2.1 s (by simp)
  have hat := hL.2.2.2.2.2.2.2.1 s (by simp)
  have his : vp_in (nI s) 200 := vp_in_nI hs (by decide)
  have hcs : (nI s).toNatClampNeg = s := nI_clamp (by omega)
  have ht9 : (g s).2.2.1 < 9 := hat.2.2.2.2.2
  have hit : vp_in (nI (g s).2.2.1) 9 := vp_in_nI ht9 (by decide)
  have hct : (nI (g s).2.2.1).toNatClampNeg = (g s).2.2.1 := nI_clamp (by omega)
  obtain ⟨ck', cv', hck, c4, c5⟩ := qm_clk (t := (g s).2.2.1) (s := (g s).2.2.2) hR.2.2.2.1 hR.2.2.2.2.1 ho.2.2.2.2.2.2
  obtain ⟨p', hp', wu⟩ := qm_xunlink hL hfr
  have em : (A ++ s :: B).map g = A.map g ++ g s :: B.map g := by simp
  have em2 : (A ++ B).map g = A.map g ++ B.map g := by simp
  rw [em] at hY
  obtain ⟨y', hy', wd⟩ := qm_ydel0 (ck' := ck') hY.2.2 hY.1 hY.2.1 ht9 hck
  have hO' : qm_QO N W ((A ++ B).map g) := by
    intro m hm
    apply hO m
    rw [em2] at hm
    rw [em]
    rcases List.mem_append.mp hm with h | h
    · exact List.mem_append_left _ h
    · exact List.mem_append_right _ (List.mem_cons_of_mem _ h)
  rw [← em2] at hy'
  rw [List.length_map] at wd
  obtain ⟨r, u', v', hrel, wX, wY⟩ := qm_d70 (en := en) (ov := ov) (re := re) hG ⟨hR.1, hR.2.1, hR.2.2.1, c4, c5, hR.2.2.2.2.2⟩ hS hH hW ⟨hp', hy', hO'⟩ ho
  refine ⟨r, u', v', hrel, fun post hp => ?_, fun post hp => wd (wY _ hp)⟩
  refine br_f (nI_pos (by omega)) (br_t (nI_lt (b := 200) hs (by decide)) (And.intro his (nm_r (e' := nI (g s).1) (by rw [hcs]; exact hat.1) (And.intro his (nm_r (e' := nI (g s).2.1) (by rw [hcs]; exact hat.2.1) (And.intro his (nm_r (e' := nI (g s).2.2.1) (by rw [hcs]; exact hat.2.2.1) (And.intro his (nm_r (e' := nI (g s).2.2.2) (by rw [hcs]; exact hat.2.2.2.1) (wu ?_))))))))))
  refine And.intro hit ?_
  rcases hck with ⟨c, z⟩ | ⟨c, z⟩
  · subst z
    exact br_t (by rw [hct]; exact c) (wX _ hp)
  · subst z
    exact br_f (by rw [hct]; exact c) (And.intro hit (nm_r (e' := upd ck (g s).2.2.1 (nI (g s).2.2.2)) (by rw [hct]) (wX _ hp)))
end
end
section
/-! fronts; ranges; deliver, deliverOldest -/
theorem qm_at {P : Int32 → Prop} {x y : Int32} (e : x = y) (h : P y) : P x := e ▸ h
theorem qm_fl_split {g : Nat → qm_M} {c s : Nat} {l : List Nat} : ∀ {L : List Nat}, qm_fl g c L = s :: l → ∃ A B, L = A ++ s :: B ∧ qm_fl g c A = [] ∧ qm_mc (g s) = c
  | [], h => by
    rw [qm_fl_nil] at h
    exact absurd h (by simp)
  | x :: L, h => by
    by_cases e : qm_mc (g x) = c
    · rw [qm_fl_in x e] at h
      have e1 : x = s := (List.cons.inj h).1
      subst e1
      exact ⟨[], L, rfl, rfl, e⟩
    · rw [qm_fl_out x e] at h
      obtain ⟨A, B, h1, h2, h3⟩ := qm_fl_split h
      refine ⟨x :: A, B, by rw [h1]; rfl, ?_, h3⟩
      rw [qm_fl_out x e]; exact h2
theorem qm_fl_nomem {g : Nat → qm_M} {c : Nat} {A : List Nat} : qm_fl g c A = [] ↔ ∀ x, x ∈ A.map g → qm_mc x ≠ c := by
  constructor
  · intro h x hx e
    exact absurd h (qm_fl_any.mpr ⟨x, hx, e⟩)
  · intro h
    rcases List.eq_nil_or_concat (qm_fl g c A) with z | ⟨l, b, z⟩
    · exact z
    · have : qm_fl g c A ≠ [] := by rw [z]; simp
      obtain ⟨m, h1, h2⟩ := qm_fl_any.mp this
      exact absurd h2 (h m h1)
theorem qm_fst_none {Q : List qm_M} {c : Nat} {r : Int32} (h : qm_fst Q c r) (hn : ∀ m, m ∈ Q → qm_mc m ≠ c) : r = -1 := by
  rcases h with ⟨e, _⟩ | ⟨A, m, B, e, _, hm, _⟩
  · exact e
  · exact absurd hm (hn m (by rw [e]; simp))
theorem qm_fst_some {A B : List qm_M} {m : qm_M} {c : Nat} {r : Int32} (h : qm_fst (A ++ m :: B) c r) (hm : qm_mc m = c) (hA : ∀ x, x ∈ A → qm_mc x ≠ c) : r = nI A.length := by
  rcases h with ⟨_, h⟩ | ⟨A2, m2, B2, e, e2, hm2, hA2⟩
  · exact absurd hm (h m (by simp))
  · rw [e2]
    apply congrArg nI
    have g1 : (A ++ m :: B)[A.length]? = some m := qm_get A m B
    have g2 : (A ++ m :: B)[A2.length]? = some m2 := by rw [e]; exact qm_get A2 m2 B2
    rcases Nat.lt_trichotomy A.length A2.length with z | z | z
    · rw [e, List.getElem?_append_left z] at g1
      exact absurd hm (hA2 m (List.mem_of_getElem? g1))
    · exact z.symm
    · rw [List.getElem?_append_left z] at g2
      exact absurd hm2 (hA m2 (List.mem_of_getElem? g2))
/-- front at the place itself -/
theorem qm_fst_self {A B : List Nat} {s : Nat} {g : Nat → qm_M} {r : Int32} (hl : (A ++ s :: B).length ≤ 200) (h : qm_fst ((A ++ s :: B).map g) (qm_mc (g s)) r) : r = nI A.length ↔ qm_fl g (qm_mc (g s)) A = [] := by
  have em : (A ++ s :: B).map g = A.map g ++ g s :: B.map g := by simp
  rw [em] at h
  rw [List.length_append] at hl
  constructor
  · intro e
    rcases h with ⟨h1, h⟩ | ⟨A2, m2, B2, e1, e2, hm2, hA2⟩
    · exact absurd rfl (h (g s) (by simp))
    · have hA2l : A2.length < A.length + (s :: B).length := by
        have := congrArg List.length e1
        simp at this ⊢
        omega
      have el : A.length = A2.length := by
        rw [e] at e2
        exact (nI_eq (by omega) (by omega)).mp e2
      have e3 : A.map g = A2 := (List.append_inj e1 (by rw [List.length_map]; exact el)).1
      rw [qm_fl_nomem, e3]
      exact hA2
  · intro e
    have := qm_fst_some h rfl (qm_fl_nomem.mp e)
    rwa [List.length_map] at this
def qm_out (N : Nat) (v : Int32) : Prop := v < 0 ∨ (¬ v < 0 ∧ nI N ≤ v)
theorem qm_rng (N : Nat) (hN : N ≤ 9) (v : Int32) : (∃ n, n < N ∧ v = nI n) ∨ qm_out N v := by
  by_cases h : v < 0
  · exact Or.inr (Or.inl h)
  · rcases pk_ix v (n := N) (by omega) with z | z | z
    · exact absurd z h
    · exact Or.inr (Or.inr ⟨h, z⟩)
    · exact Or.inl z
section
variable {co nn tp wn : Int32} {p : qm_PT} {y : qm_YT} {qb ph st ck hb rb lb en ov hk lk ll lw sd lo ls wt re : Nat → Int32}
variable {N n : Nat} {post : Int32 → Prop}
theorem qm_xin_t (hN : N ≤ 9) (hn : n < N) (h : post 1) : wpX_inRange post (nI N, tp, wn, p.1, p.2.1, p.2.2.1, p.2.2.2.1, p.2.2.2.2.1, qb, ph, st, ck, hb, rb, lb, en, ov, hk, lk, ll, lw, p.2.2.2.2.2.1, p.2.2.2.2.2.2.1, p.2.2.2.2.2.2.2.1, p.2.2.2.2.2.2.2.2.1, p.2.2.2.2.2.2.2.2.2.1, p.2.2.2.2.2.2.2.2.2.2.1, p.2.2.2.2.2.2.2.2.2.2.2.1, p.2.2.2.2.2.2.2.2.2.2.2.2.1, p.2.2.2.2.2.2.2.2.2.2.2.2.2.1, p.2.2.2.2.2.2.2.2.2.2.2.2.2.2) (nI n) := br_f (nI_pos (by omega)) (br_f (nI_ge hn (by omega)) h)
theorem qm_yin_t (hN : N ≤ 9) (hn : n < N) (h : post 1) : wpY_inRange post (co, nI N, tp, y.1, ph, st, ck, en, ov, sd, lo, ls, wt, y.2.1, y.2.2.1, y.2.2.2.1, y.2.2.2.2, re) (nI n) := br_f (nI_pos (by omega)) (br_f (nI_ge hn (by omega)) h)
theorem qm_xin_f {v : Int32} (ho : qm_out N v) (h : post 0) : wpX_inRange post (nI N, tp, wn, p.1, p.2.1, p.2.2.1, p.2.2.2.1, p.2.2.2.2.1, qb, ph, st, ck, hb, rb, lb, en, ov, hk, lk, ll, lw, p.2.2.2.2.2.1, p.2.2.2.2.2.2.1, p.2.2.2.2.2.2.2.1, p.2.2.2.2.2.2.2.2.1, p.2.2.2.2.2.2.2.2.2.1, p.2.2.2.2.2.2.2.2.2.2.1, p.2.2.2.2.2.2.2.2.2.2.2.1, p.2.2.2.2.2.2.2.2.2.2.2.2.1, p.2.2.2.2.2.2.2.2.2.2.2.2.2.1, p.2.2.2.2.2.2.2.2.2.2.2.2.2.2) v := by
  rcases ho with z | ⟨z, z2⟩
  · exact br_t z h
  · exact br_f z (br_t z2 h)
theorem qm_yin_f {v : Int32} (ho : qm_out N v) (h : post 0) : wpY_inRange post (co, nI N, tp, y.1, ph, st, ck, en, ov, sd, lo, ls, wt, y.2.1, y.2.2.1, y.2.2.2.1, y.2.2.2.2, re) v := by
  rcases ho with z | ⟨z, z2⟩
  · exact br_t z h
  · exact br_f z (br_t z2 h)
theorem qm_xempty {post : Int32 → SX → Prop} (h : post (-4) (nn, tp, wn, p.1, p.2.1, p.2.2.1, p.2.2.2.1, p.2.2.2.2.1, qb, ph, st, ck, hb, rb, lb, en, ov, hk, lk, ll, lw, p.2.2.2.2.2.1, p.2.2.2.2.2.2.1, p.2.2.2.2.2.2.2.1, p.2.2.2.2.2.2.2.2.1, p.2.2.2.2.2.2.2.2.2.1, p.2.2.2.2.2.2.2.2.2.2.1, p.2.2.2.2.2.2.2.2.2.2.2.1, p.2.2.2.2.2.2.2.2.2.2.2.2.1, p.2.2.2.2.2.2.2.2.2.2.2.2.2.1, p.2.2.2.2.2.2.2.2.2.2.2.2.2.2)) : wpX_deliverSlot post (nn, tp, wn, p.1, p.2.1, p.2.2.1, p.2.2.2.1, p.2.2.2.2.1, qb, ph, st, ck, hb, rb, lb, en, ov, hk, lk, ll, lw, p.2.2.2.2.2.1, p.2.2.2.2.2.2.1, p.2.2.2.2.2.2.2.1, p.2.2.2.2.2.2.2.2.1, p.2.2.2.2.2.2.2.2.2.1, p.2.2.2.2.2.2.2.2.2.2.1, p.2.2.2.2.2.2.2.2.2.2.2.1, p.2.2.2.2.2.2.2.2.2.2.2.2.1, p.2.2.2.2.2.2.2.2.2.2.2.2.2.1, p.2.2.2.2.2.2.2.2.2.2.2.2.2.2) (-1) := br_t qm_m1n h
theorem qm_yempty {post : Int32 → SY → Prop} (h : post (-4) (co, nn, tp, y.1, ph, st, ck, en, ov, sd, lo, ls, wt, y.2.1, y.2.2.1, y.2.2.2.1, y.2.2.2.2, re)) : wpY_deliverAt post (co, nn, tp, y.1, ph, st, ck, en, ov, sd, lo, ls, wt, y.2.1, y.2.2.1, y.2.2.2.1, y.2.2.2.2, re) (-1) := br_t qm_m1n h
end
/-- the bounds of the messages -/
theorem qm_V9_of {N W : Nat} {Q : List qm_M} (hN : N ≤ 9) (h : qm_QO N W Q) : qm_V9 Q := fun m hm => ⟨Nat.lt_of_lt_of_le (h m hm).2.2.1 hN, Nat.lt_of_lt_of_le (h m hm).2.2.2.1 hN⟩
section
variable {N W T : Nat} {sv cv sg w : Nat → Nat} {Q : List qm_M} {wn : Int32} {p : qm_PT} {y : qm_YT} {qb ph st ck hb rb lb en ov hk lk ll lw sd lo ls wt re : Nat → Int32}
theorem qm_deliver (hG : qm_G N W T qb) (hR : qm_R sv cv wn ph st ck) (hS : qm_S N W sg sd hb rb lb) (hH : qm_H N W hk lo ls) (hW : qm_Wt N W w wt lk ll lw) (hP : qm_P N W Q p y) (v1 v2 : Int32) :
    qm_BB (fun post => wpX_deliver post (nI N, nI T, wn, p.1, p.2.1, p.2.2.1, p.2.2.2.1, p.2.2.2.2.1, qb, ph, st, ck, hb, rb, lb, en, ov, hk, lk, ll, lw, p.2.2.2.2.2.1, p.2.2.2.2.2.2.1, p.2.2.2.2.2.2.2.1, p.2.2.2.2.2.2.2.2.1, p.2.2.2.2.2.2.2.2.2.1, p.2.2.2.2.2.2.2.2.2.2.1, p.2.2.2.2.2.2.2.2.2.2.2.1, p.2.2.2.2.2.2.2.2.2.2.2.2.1, p.2.2.2.2.2.2.2.2.2.2.2.2.2.1, p.2.2.2.2.2.2.2.2.2.2.2.2.2.2) v1 v2) (fun post => wpY_deliver post (nI W, nI N, nI T, y.1, ph, st, ck, en, ov, sd, lo, ls, wt, y.2.1, y.2.2.1, y.2.2.2.1, y.2.2.2.2, re) v1 v2) := by
  have hN := hG.2.2.1
  have rel := qm_mk (en := en) (ov := ov) (re := re) hG hR hS hH hW hP
  obtain ⟨⟨L, F, g, hL, eQ⟩, hY, hO⟩ := hP
  rcases qm_rng N hN v1 with ⟨f, hf, e1⟩ | o1
  · subst e1
    rcases qm_rng N hN v2 with ⟨t, ht, e2⟩ | o2
    · subst e2
      have ec : nI f * 9 + nI t = nI (f * 9 + t) := qm_idx
      have hic : vp_in (nI f * 9 + nI t) 81 := by rw [ec]; exact vp_in_nI (by omega) (by decide)
      have hcc : (nI f * 9 + nI t).toNatClampNeg = f * 9 + t := by rw [ec]; exact nI_clamp (by omega)
      have hch := (hL.2.2.2.2.2.2.2.2.1 (f * 9 + t) (by omega)).2.1
      obtain ⟨ri, hri, wf⟩ := qm_front hY (qm_V9_of hN hO) (show f < 9 by omega) (show t < 9 by omega)
      cases z : qm_fl g (f * 9 + t) L with
      | nil =>
        rw [eQ] at hri
        have e3 := qm_fst_none hri (qm_fl_nomem.mp z)
        subst e3
        refine ⟨-4, _, _, rel, fun post hp => ?_, fun post hp => ?_⟩
        · unfold wpX_deliver
          refine qm_xin_t hN hf (br_f (by decide) ?_)
          refine qm_xin_t hN ht (br_f (by decide) (And.intro hic ?_))
          rw [hcc, hch, z]
          exact qm_xempty hp
        · unfold wpY_deliver
          refine qm_yin_t hN hf (br_f (by decide) ?_)
          refine qm_yin_t hN ht (br_f (by decide) ?_)
          refine wf ?_
          exact qm_yempty hp
      | cons s l =>
        obtain ⟨A, B, eL, hA, hm⟩ := qm_fl_split z
        subst eL
        subst eQ
        have e3 : ri = nI A.length := by
          have em : (A ++ s :: B).map g = A.map g ++ g s :: B.map g := by simp
          rw [em] at hri
          have := qm_fst_some hri hm (qm_fl_nomem.mp hA)
          rwa [List.length_map] at this
        subst e3
        obtain ⟨r, u', v', hrel, wX, wY⟩ := qm_dslot (en := en) (ov := ov) (re := re) hG hR hS hH hW hL hY hO (by rw [hm]; exact hA)
        refine ⟨r, u', v', hrel, fun post hp => ?_, fun post hp => ?_⟩
        · unfold wpX_deliver
          refine qm_xin_t hN hf (br_f (by decide) ?_)
          refine qm_xin_t hN ht (br_f (by decide) (And.intro hic ?_))
          rw [hcc, hch, z]
          exact wX _ hp
        · unfold wpY_deliver
          refine qm_yin_t hN hf (br_f (by decide) ?_)
          refine qm_yin_t hN ht (br_f (by decide) ?_)
          refine wf ?_
          exact wY _ hp
    · refine ⟨-1, _, _, rel, fun post hp => ?_, fun post hp => ?_⟩
      · unfold wpX_deliver
        refine qm_xin_t hN hf (br_f (by decide) ?_)
        exact qm_xin_f o2 (br_t rfl hp)
      · unfold wpY_deliver
        refine qm_yin_t hN hf (br_f (by decide) ?_)
        exact qm_yin_f o2 (br_t rfl hp)
  · refine ⟨-1, _, _, rel, fun post hp => ?_, fun post hp => ?_⟩
    · unfold wpX_deliver
      exact qm_xin_f o1 (br_t rfl hp)
    · unfold wpY_deliver
      exact qm_yin_f o1 (br_t rfl hp)
/-- the first of the flight -/
theorem qm_dold (hG : qm_G N W T qb) (hR : qm_R sv cv wn ph st ck) (hS : qm_S N W sg sd hb rb lb) (hH : qm_H N W hk lo ls) (hW : qm_Wt N W w wt lk ll lw) (hP : qm_P N W Q p y) :
    qm_BB (fun post => wpX_deliverSlot post (nI N, nI T, wn, p.1, p.2.1, p.2.2.1, p.2.2.2.1, p.2.2.2.2.1, qb, ph, st, ck, hb, rb, lb, en, ov, hk, lk, ll, lw, p.2.2.2.2.2.1, p.2.2.2.2.2.2.1, p.2.2.2.2.2.2.2.1, p.2.2.2.2.2.2.2.2.1, p.2.2.2.2.2.2.2.2.2.1, p.2.2.2.2.2.2.2.2.2.2.1, p.2.2.2.2.2.2.2.2.2.2.2.1, p.2.2.2.2.2.2.2.2.2.2.2.2.1, p.2.2.2.2.2.2.2.2.2.2.2.2.2.1, p.2.2.2.2.2.2.2.2.2.2.2.2.2.2) p.2.1) (fun post => wpY_deliverAt post (nI W, nI N, nI T, y.1, ph, st, ck, en, ov, sd, lo, ls, wt, y.2.1, y.2.2.1, y.2.2.2.1, y.2.2.2.2, re) 0) := by
  have rel := qm_mk (en := en) (ov := ov) (re := re) hG hR hS hH hW hP
  obtain ⟨⟨L, F, g, hL, eQ⟩, hY, hO⟩ := hP
  have hh := hL.2.2.2.2.2.2.1.1
  cases L with
  | nil =>
    refine ⟨-4, _, _, rel, fun post hp => ?_, fun post hp => ?_⟩
    · exact qm_at (P := fun x => wpX_deliverSlot post (nI N, nI T, wn, p.1, p.2.1, p.2.2.1, p.2.2.2.1, p.2.2.2.2.1, qb, ph, st, ck, hb, rb, lb, en, ov, hk, lk, ll, lw, p.2.2.2.2.2.1, p.2.2.2.2.2.2.1, p.2.2.2.2.2.2.2.1, p.2.2.2.2.2.2.2.2.1, p.2.2.2.2.2.2.2.2.2.1, p.2.2.2.2.2.2.2.2.2.2.1, p.2.2.2.2.2.2.2.2.2.2.2.1, p.2.2.2.2.2.2.2.2.2.2.2.2.1, p.2.2.2.2.2.2.2.2.2.2.2.2.2.1, p.2.2.2.2.2.2.2.2.2.2.2.2.2.2) x) hh (qm_xempty hp)
    · have e : y.1 = 0 := by rw [hY.2.1, eQ]; rfl
      exact br_f (by decide) (br_f (by rw [e]; decide) hp)
  | cons s B =>
    subst eQ
    obtain ⟨r, u', v', hrel, wX, wY⟩ := qm_dslot (A := []) (en := en) (ov := ov) (re := re) hG hR hS hH hW hL hY hO rfl
    exact ⟨r, u', v', hrel, fun post hp => qm_at (P := fun x => wpX_deliverSlot post (nI N, nI T, wn, p.1, p.2.1, p.2.2.1, p.2.2.2.1, p.2.2.2.2.1, qb, ph, st, ck, hb, rb, lb, en, ov, hk, lk, ll, lw, p.2.2.2.2.2.1, p.2.2.2.2.2.2.1, p.2.2.2.2.2.2.2.1, p.2.2.2.2.2.2.2.2.1, p.2.2.2.2.2.2.2.2.2.1, p.2.2.2.2.2.2.2.2.2.2.1, p.2.2.2.2.2.2.2.2.2.2.2.1, p.2.2.2.2.2.2.2.2.2.2.2.2.1, p.2.2.2.2.2.2.2.2.2.2.2.2.2.1, p.2.2.2.2.2.2.2.2.2.2.2.2.2.2) x) hh (wX _ hp), fun post hp => wY _ hp⟩
theorem qm_deliverOldest (hG : qm_G N W T qb) (hR : qm_R sv cv wn ph st ck) (hS : qm_S N W sg sd hb rb lb) (hH : qm_H N W hk lo ls) (hW : qm_Wt N W w wt lk ll lw) (hP : qm_P N W Q p y) :
    qm_BB (fun post => wpX_deliverOldest post (nI N, nI T, wn, p.1, p.2.1, p.2.2.1, p.2.2.2.1, p.2.2.2.2.1, qb, ph, st, ck, hb, rb, lb, en, ov, hk, lk, ll, lw, p.2.2.2.2.2.1, p.2.2.2.2.2.2.1, p.2.2.2.2.2.2.2.1, p.2.2.2.2.2.2.2.2.1, p.2.2.2.2.2.2.2.2.2.1, p.2.2.2.2.2.2.2.2.2.2.1, p.2.2.2.2.2.2.2.2.2.2.2.1, p.2.2.2.2.2.2.2.2.2.2.2.2.1, p.2.2.2.2.2.2.2.2.2.2.2.2.2.1, p.2.2.2.2.2.2.2.2.2.2.2.2.2.2)) (fun post => wpY_deliverOldest post (nI W, nI N, nI T, y.1, ph, st, ck, en, ov, sd, lo, ls, wt, y.2.1, y.2.2.1, y.2.2.2.1, y.2.2.2.2, re)) := by
  obtain ⟨r, u', v', hrel, wX, wY⟩ := qm_dold (en := en) (ov := ov) (re := re) hG hR hS hH hW hP
  refine ⟨r, u', v', hrel, fun post hp => ?_, fun post hp => ?_⟩
  · unfold wpX_deliverOldest
    exact wX _ hp
  · unfold wpY_deliverOldest
    exact wY _ hp
end
end
section
/-! deliverNewest, deliverKind -/
section
variable {N W T : Nat} {sv cv sg w : Nat → Nat} {Q : List qm_M} {wn : Int32} {p : qm_PT} {y : qm_YT} {qb ph st ck hb rb lb en ov hk lk ll lw sd lo ls wt re : Nat → Int32}
variable {A B F L : List Nat} {s : Nat} {g : Nat → qm_M}
theorem qm_xfront {nn tp : Int32} {post : Int32 → Prop} (hL : qm_PL (A ++ s :: B) F g p.1 p.2.1 p.2.2.1 p.2.2.2.1 p.2.2.2.2.1 p.2.2.2.2.2.1 p.2.2.2.2.2.2.1 p.2.2.2.2.2.2.2.1 p.2.2.2.2.2.2.2.2.1 p.2.2.2.2.2.2.2.2.2.1 p.2.2.2.2.2.2.2.2.2.2.1 p.2.2.2.2.2.2.2.2.2.2.2.1 p.2.2.2.2.2.2.2.2.2.2.2.2.1 p.2.2.2.2.2.2.2.2.2.2.2.2.2.1 p.2.2.2.2.2.2.2.2.2.2.2.2.2.2) (t : qm_fl g (qm_mc (g s)) A = [] → post 1) (f : ¬ qm_fl g (qm_mc (g s)) A = [] → post 0) : wpX_isFront post (nn, tp, wn, p.1, p.2.1, p.2.2.1, p.2.2.2.1, p.2.2.2.2.1, qb, ph, st, ck, hb, rb, lb, en, ov, hk, lk, ll, lw, p.2.2.2.2.2.1, p.2.2.2.2.2.2.1, p.2.2.2.2.2.2.2.1, p.2.2.2.2.2.2.2.2.1, p.2.2.2.2.2.2.2.2.2.1, p.2.2.2.2.2.2.2.2.2.2.1, p.2.2.2.2.2.2.2.2.2.2.2.1, p.2.2.2.2.2.2.2.2.2.2.2.2.1, p.2.2.2.2.2.2.2.2.2.2.2.2.2.1, p.2.2.2.2.2.2.2.2.2.2.2.2.2.2) (nI s) := by
  have hs : s < 200 := hL.2.1 s (by simp)
  have hat := hL.2.2.2.2.2.2.2.1 s (by simp)
  have his : vp_in (nI s) 200 := vp_in_nI hs (by decide)
  have hcs : (nI s).toNatClampNeg = s := nI_clamp (by omega)
  have hc81 : qm_mc (g s) < 81 := qm_mc_lt hat.2.2.2.2.1 hat.2.2.2.2.2
  have ec : p.2.2.2.2.2.2.1 (nI s).toNatClampNeg * 9 + p.2.2.2.2.2.2.2.1 (nI s).toNatClampNeg = nI (qm_mc (g s)) := by
    rw [hcs, hat.2.1, hat.2.2.1, qm_idx]; rfl
  have hch := (hL.2.2.2.2.2.2.2.2.1 _ hc81).2.1
  have el : qm_fl g (qm_mc (g s)) (A ++ s :: B) = qm_fl g (qm_mc (g s)) A ++ s :: qm_fl g (qm_mc (g s)) B := by rw [qm_fl_app, qm_fl_in s rfl]
  refine And.intro his (And.intro his (And.intro (by rw [ec]; exact vp_in_nI hc81 (by decide)) ?_))
  by_cases c : qm_fl g (qm_mc (g s)) A = []
  · refine br_t ?_ (t c)
    rw [ec, nI_clamp (by omega), hch, el, c]; rfl
  · refine br_f ?_ (f c)
    rw [ec, nI_clamp (by omega), hch, el]
    cases z : qm_fl g (qm_mc (g s)) A with
    | nil => exact absurd z c
    | cons x l =>
      have hx : x ∈ A := (qm_fl_mem.mp (show x ∈ qm_fl g (qm_mc (g s)) A by rw [z]; simp)).1
      have hx2 : x < 200 := hL.2.1 x (by simp [hx])
      have nd := (List.nodup_append.mp (List.nodup_append.mp hL.1).1).2.2 x hx s (by simp)
      show ¬ nI x = nI s
      rw [nI_eq (by omega) (by omega)]
      exact nd
theorem qm_yfr {co nn tp : Int32} {x1 x2 : Int32} {post : Int32 → Prop} (hN : N ≤ 9) (hY : qm_PY ((A ++ s :: B).map g) y) (hO : qm_QO N W ((A ++ s :: B).map g)) (e1 : x1 = nI (g s).2.1) (e2 : x2 = nI (g s).2.2.1)
    (t : qm_fl g (qm_mc (g s)) A = [] → post (nI A.length)) (f : ¬ qm_fl g (qm_mc (g s)) A = [] → ∀ r, ¬ r = nI A.length → post r) : wpY_front post (co, nn, tp, y.1, ph, st, ck, en, ov, sd, lo, ls, wt, y.2.1, y.2.2.1, y.2.2.2.1, y.2.2.2.2, re) x1 x2 := by
  have ho := qm_V9_of hN hO (g s) (List.mem_map.mpr ⟨s, by simp, rfl⟩)
  have hl : (A ++ s :: B).length ≤ 200 := by have := hY.1; rwa [List.length_map] at this
  obtain ⟨r, hr, wf⟩ := qm_front hY (qm_V9_of hN hO) ho.1 ho.2
  have k := qm_fst_self hl hr
  subst e1 e2
  refine wf ?_
  by_cases c : qm_fl g (qm_mc (g s)) A = []
  · rw [k.mpr c]; exact t c
  · exact f c r (fun z => c (k.mp z))
theorem qm_new1 (hG : qm_G N W T qb) (hR : qm_R sv cv wn ph st ck) (hS : qm_S N W sg sd hb rb lb) (hH : qm_H N W hk lo ls) (hW : qm_Wt N W w wt lk ll lw) (hL : qm_PL (L) F g p.1 p.2.1 p.2.2.1 p.2.2.2.1 p.2.2.2.2.1 p.2.2.2.2.2.1 p.2.2.2.2.2.2.1 p.2.2.2.2.2.2.2.1 p.2.2.2.2.2.2.2.2.1 p.2.2.2.2.2.2.2.2.2.1 p.2.2.2.2.2.2.2.2.2.2.1 p.2.2.2.2.2.2.2.2.2.2.2.1 p.2.2.2.2.2.2.2.2.2.2.2.2.1 p.2.2.2.2.2.2.2.2.2.2.2.2.2.1 p.2.2.2.2.2.2.2.2.2.2.2.2.2.2) (hY : qm_PY (L.map g) y) (hO : qm_QO N W (L.map g)) (rel : qm_Rel (nI N, nI T, wn, p.1, p.2.1, p.2.2.1, p.2.2.2.1, p.2.2.2.2.1, qb, ph, st, ck, hb, rb, lb, en, ov, hk, lk, ll, lw, p.2.2.2.2.2.1, p.2.2.2.2.2.2.1, p.2.2.2.2.2.2.2.1, p.2.2.2.2.2.2.2.2.1, p.2.2.2.2.2.2.2.2.2.1, p.2.2.2.2.2.2.2.2.2.2.1, p.2.2.2.2.2.2.2.2.2.2.2.1, p.2.2.2.2.2.2.2.2.2.2.2.2.1, p.2.2.2.2.2.2.2.2.2.2.2.2.2.1, p.2.2.2.2.2.2.2.2.2.2.2.2.2.2) (nI W, nI N, nI T, y.1, ph, st, ck, en, ov, sd, lo, ls, wt, y.2.1, y.2.2.1, y.2.2.2.1, y.2.2.2.2, re)) :
    ∀ (m : Nat) (A B : List Nat), A.length = m → L = A ++ B → qm_BB (fun post => wX_deliverNewest_7 post (nI N) (nI T) wn p.1 p.2.1 p.2.2.1 p.2.2.2.1 p.2.2.2.2.1 qb ph st ck hb rb lb en ov hk lk ll lw p.2.2.2.2.2.1 p.2.2.2.2.2.2.1 p.2.2.2.2.2.2.2.1 p.2.2.2.2.2.2.2.2.1 p.2.2.2.2.2.2.2.2.2.1 p.2.2.2.2.2.2.2.2.2.2.1 p.2.2.2.2.2.2.2.2.2.2.2.1 p.2.2.2.2.2.2.2.2.2.2.2.2.1 p.2.2.2.2.2.2.2.2.2.2.2.2.2.1 p.2.2.2.2.2.2.2.2.2.2.2.2.2.2 (m + 1) (qm_hd A.reverse) (nI B.length)) (fun post => wY_deliverNewest_7 post (nI W) (nI N) (nI T) y.1 ph st ck en ov sd lo ls wt y.2.1 y.2.2.1 y.2.2.2.1 y.2.2.2.2 re (m + 1) (nI m + (-1)))
  | 0, A, B, em, e => by
    have eA : A = [] := List.eq_nil_of_length_eq_zero em
    subst eA
    refine ⟨-4, _, _, rel, fun post hp => ?_, fun post hp => br_t (by decide) hp⟩
    exact br_c (fun _ => hp) (fun _ => br_t qm_m1n hp)
  | m + 1, A, B, em, e => by
    rcases qm_rcons A with z | ⟨A2, s, z⟩
    · rw [z] at em; simp at em
    · subst z
      have em2 : A2.length = m := by simpa using em
      have e' : L = A2 ++ s :: B := by rw [e]; simp
      have ih := qm_new1 hG hR hS hH hW hL hY hO rel m A2 (s :: B) em2 e'
      have hL' := hL
      have hY' := hY
      have hO' := hO
      rw [e'] at hL' hY' hO'
      have hlen : A2.length + (B.length + 1) + F.length = 200 := by have := hL'.2.2.1; simpa using this
      have hs : s < 200 := hL'.2.1 s (by simp)
      have his : vp_in (nI s) 200 := vp_in_nI hs (by decide)
      have hcs : (nI s).toNatClampNeg = s := nI_clamp (by omega)
      have exs : qm_hd (A2 ++ [s]).reverse = nI s := by rw [qm_rv]; rfl
      have pv : p.2.2.2.2.2.2.2.2.2.2.1 (nI s).toNatClampNeg = qm_hd A2.reverse := by
        rw [hcs]
        have c2 := hL'.2.2.2.2.2.2.1.2.2.2
        rw [qm_rv2] at c2
        exact qm_ch_at c2
      have hyi : nI (m + 1) + (-1) = nI m := pk_m1 m
      have him : vp_in (nI m) 200 := vp_in_nI (by omega) (by decide)
      have hcm : (nI m).toNatClampNeg = m := nI_clamp (by omega)
      have at_ := hY'.2.2 m (g s) (by rw [← em2]; simp)
      rw [exs, hyi]
      by_cases c : qm_fl g (qm_mc (g s)) A2 = []
      · obtain ⟨r, u', v', hrel, wX, wY⟩ := qm_dslot (en := en) (ov := ov) (re := re) hG hR hS hH hW hL' hY' hO' c
        rw [em2] at wY
        refine ⟨r, u', v', hrel, fun post hp => ?_, fun post hp => ?_⟩
        · refine br_f (nI_ge (b := 200) (by omega) (by decide)) (br_f (nI_pos (by omega)) (qm_xfront hL' (fun _ => br_f (by decide) ?_) (fun z => absurd c z)))
          exact wX _ hp
        · refine br_f (nI_pos (by omega)) (And.intro him (And.intro him (qm_yfr hG.2.2.1 hY' hO' (by rw [hcm]; exact at_.2.1) (by rw [hcm]; exact at_.2.2.1) (fun _ => br_t (by rw [em2]) ?_) (fun z => absurd c z))))
          exact wY _ hp
      · obtain ⟨r, u', v', hrel, wX, wY⟩ := ih
        refine ⟨r, u', v', hrel, fun post hp => ?_, fun post hp => ?_⟩
        · refine br_f (nI_ge (b := 200) (by omega) (by decide)) (br_f (nI_pos (by omega)) (qm_xfront hL' (fun z => absurd z c) (fun _ => br_t rfl (And.intro his (nm_r pv (nm_r (nI_1 _) ?_))))))
          exact wX _ hp
        · refine br_f (nI_pos (by omega)) (And.intro him (And.intro him (qm_yfr hG.2.2.1 hY' hO' (by rw [hcm]; exact at_.2.1) (by rw [hcm]; exact at_.2.2.1) (fun z => absurd z c) (fun _ r0 hr0 => br_f (by rw [← em2]; exact hr0) (nm_e ?_)))))
          exact wY _ hp
theorem qm_deliverNewest (hG : qm_G N W T qb) (hR : qm_R sv cv wn ph st ck) (hS : qm_S N W sg sd hb rb lb) (hH : qm_H N W hk lo ls) (hW : qm_Wt N W w wt lk ll lw) (hP : qm_P N W Q p y) :
    qm_BB (fun post => wpX_deliverNewest post (nI N, nI T, wn, p.1, p.2.1, p.2.2.1, p.2.2.2.1, p.2.2.2.2.1, qb, ph, st, ck, hb, rb, lb, en, ov, hk, lk, ll, lw, p.2.2.2.2.2.1, p.2.2.2.2.2.2.1, p.2.2.2.2.2.2.2.1, p.2.2.2.2.2.2.2.2.1, p.2.2.2.2.2.2.2.2.2.1, p.2.2.2.2.2.2.2.2.2.2.1, p.2.2.2.2.2.2.2.2.2.2.2.1, p.2.2.2.2.2.2.2.2.2.2.2.2.1, p.2.2.2.2.2.2.2.2.2.2.2.2.2.1, p.2.2.2.2.2.2.2.2.2.2.2.2.2.2)) (fun post => wpY_deliverNewest post (nI W, nI N, nI T, y.1, ph, st, ck, en, ov, sd, lo, ls, wt, y.2.1, y.2.2.1, y.2.2.2.1, y.2.2.2.2, re)) := by
  have rel := qm_mk (en := en) (ov := ov) (re := re) hG hR hS hH hW hP
  obtain ⟨⟨L, F, g, hL, eQ⟩, hY, hO⟩ := hP
  subst eQ
  obtain ⟨r, u', v', hrel, wX, wY⟩ := qm_new1 (en := en) (ov := ov) (re := re) hG hR hS hH hW hL hY hO rel L.length L [] rfl (by simp)
  have ht := hL.2.2.2.2.2.2.1.2.1
  refine ⟨r, u', v', hrel, fun post hp => ⟨L.length + 1, ?_⟩, fun post hp => nm_r (e' := nI L.length + (-1)) ?_ ⟨_, wY _ hp⟩⟩
  · exact qm_at (P := fun x => wX_deliverNewest_7 post (nI N) (nI T) wn p.1 p.2.1 p.2.2.1 p.2.2.2.1 p.2.2.2.2.1 qb ph st ck hb rb lb en ov hk lk ll lw p.2.2.2.2.2.1 p.2.2.2.2.2.2.1 p.2.2.2.2.2.2.2.1 p.2.2.2.2.2.2.2.2.1 p.2.2.2.2.2.2.2.2.2.1 p.2.2.2.2.2.2.2.2.2.2.1 p.2.2.2.2.2.2.2.2.2.2.2.1 p.2.2.2.2.2.2.2.2.2.2.2.2.1 p.2.2.2.2.2.2.2.2.2.2.2.2.2.1 p.2.2.2.2.2.2.2.2.2.2.2.2.2.2 (L.length + 1) x 0) ht (wX _ hp)
  · rw [hY.2.1, List.length_map]
    exact Int32.sub_eq_add_neg _ _
theorem qm_kind1 {x1 : Int32} (hG : qm_G N W T qb) (hR : qm_R sv cv wn ph st ck) (hS : qm_S N W sg sd hb rb lb) (hH : qm_H N W hk lo ls) (hW : qm_Wt N W w wt lk ll lw) (hL : qm_PL (L) F g p.1 p.2.1 p.2.2.1 p.2.2.2.1 p.2.2.2.2.1 p.2.2.2.2.2.1 p.2.2.2.2.2.2.1 p.2.2.2.2.2.2.2.1 p.2.2.2.2.2.2.2.2.1 p.2.2.2.2.2.2.2.2.2.1 p.2.2.2.2.2.2.2.2.2.2.1 p.2.2.2.2.2.2.2.2.2.2.2.1 p.2.2.2.2.2.2.2.2.2.2.2.2.1 p.2.2.2.2.2.2.2.2.2.2.2.2.2.1 p.2.2.2.2.2.2.2.2.2.2.2.2.2.2) (hY : qm_PY (L.map g) y) (hO : qm_QO N W (L.map g)) (rel : qm_Rel (nI N, nI T, wn, p.1, p.2.1, p.2.2.1, p.2.2.2.1, p.2.2.2.2.1, qb, ph, st, ck, hb, rb, lb, en, ov, hk, lk, ll, lw, p.2.2.2.2.2.1, p.2.2.2.2.2.2.1, p.2.2.2.2.2.2.2.1, p.2.2.2.2.2.2.2.2.1, p.2.2.2.2.2.2.2.2.2.1, p.2.2.2.2.2.2.2.2.2.2.1, p.2.2.2.2.2.2.2.2.2.2.2.1, p.2.2.2.2.2.2.2.2.2.2.2.2.1, p.2.2.2.2.2.2.2.2.2.2.2.2.2.1, p.2.2.2.2.2.2.2.2.2.2.2.2.2.2) (nI W, nI N, nI T, y.1, ph, st, ck, en, ov, sd, lo, ls, wt, y.2.1, y.2.2.1, y.2.2.2.1, y.2.2.2.2, re)) :
    ∀ (B A : List Nat), L = A ++ B → qm_BB (fun post => wX_deliverKind_20 post x1 (nI N) (nI T) wn p.1 p.2.1 p.2.2.1 p.2.2.2.1 p.2.2.2.2.1 qb ph st ck hb rb lb en ov hk lk ll lw p.2.2.2.2.2.1 p.2.2.2.2.2.2.1 p.2.2.2.2.2.2.2.1 p.2.2.2.2.2.2.2.2.1 p.2.2.2.2.2.2.2.2.2.1 p.2.2.2.2.2.2.2.2.2.2.1 p.2.2.2.2.2.2.2.2.2.2.2.1 p.2.2.2.2.2.2.2.2.2.2.2.2.1 p.2.2.2.2.2.2.2.2.2.2.2.2.2.1 p.2.2.2.2.2.2.2.2.2.2.2.2.2.2 (B.length + 1) (qm_hd B) (nI A.length)) (fun post => wY_deliverKind_15 post x1 (nI W) (nI N) (nI T) y.1 ph st ck en ov sd lo ls wt y.2.1 y.2.2.1 y.2.2.2.1 y.2.2.2.2 re (B.length + 1) (nI A.length))
  | [], A, e => by
    refine ⟨-4, _, _, rel, fun post hp => ?_, fun post hp => br_t ?_ hp⟩
    · exact br_c (fun _ => hp) (fun _ => br_t qm_m1n hp)
    · have h2 := hL.2.2.1
      rw [hY.2.1, List.length_map, e, List.append_nil]
      rw [e, List.append_nil] at h2
      exact nI_le (Nat.le_refl _) (by omega)
  | s :: B, A, e => by
    have ih := qm_kind1 (x1 := x1) hG hR hS hH hW hL hY hO rel B (A ++ [s]) (by rw [e]; simp)
    have hL' := hL
    have hY' := hY
    have hO' := hO
    rw [e] at hL' hY' hO'
    have hlen : A.length + (B.length + 1) + F.length = 200 := by have := hL'.2.2.1; simpa using this
    have hs : s < 200 := hL'.2.1 s (by simp)
    have his : vp_in (nI s) 200 := vp_in_nI hs (by decide)
    have hcs : (nI s).toNatClampNeg = s := nI_clamp (by omega)
    have nv : p.2.2.2.2.2.2.2.2.2.1 (nI s).toNatClampNeg = qm_hd B := by
      rw [hcs]
      exact qm_ch_at hL'.2.2.2.2.2.2.1.2.2.1
    have hat := hL'.2.2.2.2.2.2.2.1 s (by simp)
    have him : vp_in (nI A.length) 200 := vp_in_nI (by omega) (by decide)
    have hcm : (nI A.length).toNatClampNeg = A.length := nI_clamp (by omega)
    have at_ := hY'.2.2 A.length (g s) (by simp)
    have nle : ¬ y.1 ≤ nI A.length := by
      rw [hY'.2.1, List.length_map]
      exact nI_ge (by simp) (by simp; omega)
    have kx : p.2.2.2.2.2.1 (nI s).toNatClampNeg = nI (g s).1 := by rw [hcs]; exact hat.1
    have ky : y.2.1 (nI A.length).toNatClampNeg = nI (g s).1 := by rw [hcm]; exact at_.1
    rw [List.length_append] at ih
    by_cases ck1 : nI (g s).1 = x1
    · by_cases c : qm_fl g (qm_mc (g s)) A = []
      · obtain ⟨r, u', v', hrel, wX, wY⟩ := qm_dslot (en := en) (ov := ov) (re := re) hG hR hS hH hW hL' hY' hO' c
        refine ⟨r, u', v', hrel, fun post hp => ?_, fun post hp => ?_⟩
        · refine br_f (nI_ge (b := 200) (by omega) (by decide)) (br_f (nI_pos (n := s) (by omega)) (And.intro his (br_t (kx.trans ck1) (qm_xfront hL' (fun _ => br_f (by decide) ?_) (fun z => absurd c z)))))
          exact wX _ hp
        · refine br_f nle (And.intro him (br_t (ky.trans ck1) (And.intro him (And.intro him (qm_yfr hG.2.2.1 hY' hO' (by rw [hcm]; exact at_.2.1) (by rw [hcm]; exact at_.2.2.1) (fun _ => br_t rfl ?_) (fun z => absurd c z))))))
          exact wY _ hp
      · obtain ⟨r, u', v', hrel, wX, wY⟩ := ih
        refine ⟨r, u', v', hrel, fun post hp => ?_, fun post hp => ?_⟩
        · refine br_f (nI_ge (b := 200) (by omega) (by decide)) (br_f (nI_pos (n := s) (by omega)) (And.intro his (br_t (kx.trans ck1) (qm_xfront hL' (fun z => absurd z c) (fun _ => br_t rfl (And.intro his (nm_r nv (nm_r (nI_1 _) ?_))))))))
          exact wX _ hp
        · refine br_f nle (And.intro him (br_t (ky.trans ck1) (And.intro him (And.intro him (qm_yfr hG.2.2.1 hY' hO' (by rw [hcm]; exact at_.2.1) (by rw [hcm]; exact at_.2.2.1) (fun z => absurd z c) (fun _ r0 hr0 => br_f hr0 (nm_r (nI_1 _) ?_)))))))
          exact wY _ hp
    · obtain ⟨r, u', v', hrel, wX, wY⟩ := ih
      refine ⟨r, u', v', hrel, fun post hp => ?_, fun post hp => ?_⟩
      · refine br_f (nI_ge (b := 200) (by omega) (by decide)) (br_f (nI_pos (n := s) (by omega)) (And.intro his (br_f (fun z => ck1 (kx.symm.trans z)) (And.intro his (nm_r nv (nm_r (nI_1 _) ?_))))))
        exact wX _ hp
      · refine br_f nle (And.intro him (br_f (fun z => ck1 (ky.symm.trans z)) (nm_r (nI_1 _) ?_)))
        exact wY _ hp
theorem qm_deliverKind (hG : qm_G N W T qb) (hR : qm_R sv cv wn ph st ck) (hS : qm_S N W sg sd hb rb lb) (hH : qm_H N W hk lo ls) (hW : qm_Wt N W w wt lk ll lw) (hP : qm_P N W Q p y) (v1 : Int32) :
    qm_BB (fun post => wpX_deliverKind post (nI N, nI T, wn, p.1, p.2.1, p.2.2.1, p.2.2.2.1, p.2.2.2.2.1, qb, ph, st, ck, hb, rb, lb, en, ov, hk, lk, ll, lw, p.2.2.2.2.2.1, p.2.2.2.2.2.2.1, p.2.2.2.2.2.2.2.1, p.2.2.2.2.2.2.2.2.1, p.2.2.2.2.2.2.2.2.2.1, p.2.2.2.2.2.2.2.2.2.2.1, p.2.2.2.2.2.2.2.2.2.2.2.1, p.2.2.2.2.2.2.2.2.2.2.2.2.1, p.2.2.2.2.2.2.2.2.2.2.2.2.2.1, p.2.2.2.2.2.2.2.2.2.2.2.2.2.2) v1) (fun post => wpY_deliverKind post (nI W, nI N, nI T, y.1, ph, st, ck, en, ov, sd, lo, ls, wt, y.2.1, y.2.2.1, y.2.2.2.1, y.2.2.2.2, re) v1) := by
  have rel := qm_mk (en := en) (ov := ov) (re := re) hG hR hS hH hW hP
  obtain ⟨⟨L, F, g, hL, eQ⟩, hY, hO⟩ := hP
  subst eQ
  by_cases c1 : v1 < 1
  · exact ⟨-1, _, _, rel, fun post hp => br_t c1 hp, fun post hp => br_t c1 hp⟩
  by_cases c6 : v1 ≤ 6
  · obtain ⟨r, u', v', hrel, wX, wY⟩ := qm_kind1 (x1 := v1) (en := en) (ov := ov) (re := re) hG hR hS hH hW hL hY hO rel L [] rfl
    have hh := hL.2.2.2.2.2.2.1.1
    refine ⟨r, u', v', hrel, fun post hp => br_f c1 (br_t c6 ⟨L.length + 1, ?_⟩), fun post hp => br_f c1 (br_t c6 ⟨_, wY _ hp⟩)⟩
    exact qm_at (P := fun x => wX_deliverKind_20 post v1 (nI N) (nI T) wn p.1 p.2.1 p.2.2.1 p.2.2.2.1 p.2.2.2.2.1 qb ph st ck hb rb lb en ov hk lk ll lw p.2.2.2.2.2.1 p.2.2.2.2.2.2.1 p.2.2.2.2.2.2.2.1 p.2.2.2.2.2.2.2.2.1 p.2.2.2.2.2.2.2.2.2.1 p.2.2.2.2.2.2.2.2.2.2.1 p.2.2.2.2.2.2.2.2.2.2.2.1 p.2.2.2.2.2.2.2.2.2.2.2.2.1 p.2.2.2.2.2.2.2.2.2.2.2.2.2.1 p.2.2.2.2.2.2.2.2.2.2.2.2.2.2 (L.length + 1) x 0) hh (wX _ hp)
  · exact ⟨-1, _, _, rel, fun post hp => br_f c1 (br_f c6 hp), fun post hp => br_f c1 (br_f c6 hp)⟩
end
end
section
/-! deliverPick, run -/
section
variable {N W T : Nat} {sv cv sg w : Nat → Nat} {Q : List qm_M} {wn : Int32} {p : qm_PT} {y : qm_YT} {qb ph st ck hb rb lb en ov hk lk ll lw sd lo ls wt re : Nat → Int32}
variable {A B F L : List Nat} {s : Nat} {g : Nat → qm_M}
theorem qm_div9 {i : Nat} (hi : i < 81) : nI i / 9 = nI (i / 9) := pk_div (a := i) (d := 9) (by omega) (by omega) (by omega)
theorem qm_rem9 {i : Nat} (hi : i < 81) : nI i - nI i / 9 * 9 = nI (i % 9) := pk_rem (a := i) (d := 9) (by omega) (by omega) (by omega)
theorem qm_fr9 {i : Nat} (hN : N ≤ 9) (hY : qm_PY Q y) (hO : qm_QO N W Q) (hi : i < 81) : ∃ r, qm_fst Q i r ∧ ∀ {co nn tp : Int32} {ph st ck en ov sd lo ls wt re : Nat → Int32} {x1 x2 : Int32} {post : Int32 → Prop}, x1 = nI (i / 9) → x2 = nI (i % 9) → post r → wpY_front post (co, nn, tp, y.1, ph, st, ck, en, ov, sd, lo, ls, wt, y.2.1, y.2.2.1, y.2.2.2.1, y.2.2.2.2, re) x1 x2 := by
  obtain ⟨r, hr, wf⟩ := qm_front (f := i / 9) (t := i % 9) hY (qm_V9_of hN hO) (by omega) (by omega)
  rw [show i / 9 * 9 + i % 9 = i from by omega] at hr
  refine ⟨r, hr, fun e1 e2 hp => ?_⟩
  subst e1
  subst e2
  exact wf hp
theorem qm_fst_neg {Q : List qm_M} {c : Nat} {r : Int32} (hl : Q.length ≤ 200) (h : qm_fst Q c r) : (qm_bs Q c = true → ¬ r < 0) ∧ (¬ qm_bs Q c = true → r < 0) := by
  rcases h with ⟨e, h⟩ | ⟨A, m, B, e, e2, hm, hA⟩
  · refine ⟨fun hb => ?_, fun _ => by rw [e]; decide⟩
    obtain ⟨m, h1, h2⟩ := qm_bs_iff.mp hb
    exact absurd h2 (h m h1)
  · have hA2 : A.length ≤ 200 := by rw [e] at hl; simp at hl; omega
    refine ⟨fun _ => by rw [e2]; exact nI_pos (by omega), fun hb => ?_⟩
    exact absurd (qm_bs_iff.mpr ⟨m, by rw [e]; simp, hm⟩) hb
theorem qm_ycnt {x1 : Int32} (hN : N ≤ 9) (hY : qm_PY Q y) (hO : qm_QO N W Q) {co nn tp : Int32} {post : Int32 → SY → Prop} (hz : qm_cnt (qm_bs Q) 81 = 0 → post (-4) (co, nn, tp, y.1, ph, st, ck, en, ov, sd, lo, ls, wt, y.2.1, y.2.2.1, y.2.2.2.1, y.2.2.2.2, re)) (hn : qm_cnt (qm_bs Q) 81 ≠ 0 → ∃ n51, wY_deliverPick_51 post co nn tp y.1 ph st ck en ov sd lo ls wt y.2.1 y.2.2.1 y.2.2.2.1 y.2.2.2.2 re n51 ((x1 &&& 2147483647) - (x1 &&& 2147483647) / nI (qm_cnt (qm_bs Q) 81) * nI (qm_cnt (qm_bs Q) 81)) 0) :
    ∀ d i : Nat, i + d = 81 → wY_deliverPick_4 post x1 co nn tp y.1 ph st ck en ov sd lo ls wt y.2.1 y.2.2.1 y.2.2.2.1 y.2.2.2.2 re (d + 1) (nI (qm_cnt (qm_bs Q) i)) (nI i)
  | 0, i, hd => by
    have e : i = 81 := by omega
    subst e
    have c81 := qm_cnt_le (qm_bs Q) 81
    refine br_t (by decide) ?_
    by_cases c : qm_cnt (qm_bs Q) 81 = 0
    · exact br_t (by rw [c]; rfl) (hz c)
    · have n0 : ¬ nI (qm_cnt (qm_bs Q) 81) = 0 := nI_ne0 (by omega) (by omega)
      exact br_f n0 (And.intro n0 (nm_e (hn c)))
  | d + 1, i, hd => by
    have hi : i < 81 := by omega
    have h9 : ¬ (9 : Int32) = 0 := by decide
    obtain ⟨r, hr, wf⟩ := qm_fr9 hN hY hO hi
    have k := qm_fst_neg hY.1 hr
    have ih := qm_ycnt hN hY hO hz hn d (i + 1) (by omega)
    refine br_f (nI_ge (b := 81) hi (by decide)) (And.intro h9 (And.intro h9 (wf (qm_div9 hi) (qm_rem9 hi) ?_)))
    by_cases c : qm_bs Q i = true
    · have e : qm_cnt (qm_bs Q) (i + 1) = qm_cnt (qm_bs Q) i + 1 := by
        simp only [qm_cnt]
        rw [if_pos c]
      rw [e] at ih
      exact br_f (k.1 c) (nm_r (nI_1 _) (nm_r (nI_1 _) ih))
    · have e : qm_cnt (qm_bs Q) (i + 1) = qm_cnt (qm_bs Q) i := by
        simp only [qm_cnt]
        rw [if_neg c, Nat.add_zero]
      rw [e] at ih
      exact br_t (k.2 c) (nm_r (nI_1 _) ih)
theorem qm_pick1 (hG : qm_G N W T qb) (hR : qm_R sv cv wn ph st ck) (hS : qm_S N W sg sd hb rb lb) (hH : qm_H N W hk lo ls) (hW : qm_Wt N W w wt lk ll lw) (hL : qm_PL (L) F g p.1 p.2.1 p.2.2.1 p.2.2.2.1 p.2.2.2.2.1 p.2.2.2.2.2.1 p.2.2.2.2.2.2.1 p.2.2.2.2.2.2.2.1 p.2.2.2.2.2.2.2.2.1 p.2.2.2.2.2.2.2.2.2.1 p.2.2.2.2.2.2.2.2.2.2.1 p.2.2.2.2.2.2.2.2.2.2.2.1 p.2.2.2.2.2.2.2.2.2.2.2.2.1 p.2.2.2.2.2.2.2.2.2.2.2.2.2.1 p.2.2.2.2.2.2.2.2.2.2.2.2.2.2) (hY : qm_PY (L.map g) y) (hO : qm_QO N W (L.map g)) (rel : qm_Rel (nI N, nI T, wn, p.1, p.2.1, p.2.2.1, p.2.2.2.1, p.2.2.2.2.1, qb, ph, st, ck, hb, rb, lb, en, ov, hk, lk, ll, lw, p.2.2.2.2.2.1, p.2.2.2.2.2.2.1, p.2.2.2.2.2.2.2.1, p.2.2.2.2.2.2.2.2.1, p.2.2.2.2.2.2.2.2.2.1, p.2.2.2.2.2.2.2.2.2.2.1, p.2.2.2.2.2.2.2.2.2.2.2.1, p.2.2.2.2.2.2.2.2.2.2.2.2.1, p.2.2.2.2.2.2.2.2.2.2.2.2.2.1, p.2.2.2.2.2.2.2.2.2.2.2.2.2.2) (nI W, nI N, nI T, y.1, ph, st, ck, en, ov, sd, lo, ls, wt, y.2.1, y.2.2.1, y.2.2.2.1, y.2.2.2.2, re)) :
    ∀ (d i : Nat) (x : Int32), i + d = 81 → qm_BB (fun post => wX_deliverPick_22 post (nI N) (nI T) wn p.1 p.2.1 p.2.2.1 p.2.2.2.1 p.2.2.2.2.1 qb ph st ck hb rb lb en ov hk lk ll lw p.2.2.2.2.2.1 p.2.2.2.2.2.2.1 p.2.2.2.2.2.2.2.1 p.2.2.2.2.2.2.2.2.1 p.2.2.2.2.2.2.2.2.2.1 p.2.2.2.2.2.2.2.2.2.2.1 p.2.2.2.2.2.2.2.2.2.2.2.1 p.2.2.2.2.2.2.2.2.2.2.2.2.1 p.2.2.2.2.2.2.2.2.2.2.2.2.2.1 p.2.2.2.2.2.2.2.2.2.2.2.2.2.2 (d + 1) x (nI i)) (fun post => wY_deliverPick_51 post (nI W) (nI N) (nI T) y.1 ph st ck en ov sd lo ls wt y.2.1 y.2.2.1 y.2.2.2.1 y.2.2.2.2 re (d + 1) x (nI i))
  | 0, i, x, hd => by
    have e : i = 81 := by omega
    subst e
    exact ⟨-4, _, _, rel, fun post hp => br_t (by decide) hp, fun post hp => br_t (by decide) hp⟩
  | d + 1, i, x, hd => by
    have hi : i < 81 := by omega
    have h9 : ¬ (9 : Int32) = 0 := by decide
    have n81 : ¬ (81 : Int32) ≤ nI i := nI_ge (b := 81) hi (by decide)
    have hii : vp_in (nI i) 81 := vp_in_nI hi (by decide)
    have hci : (nI i).toNatClampNeg = i := nI_clamp (by omega)
    obtain ⟨r0, hr0, wf⟩ := qm_fr9 hG.2.2.1 hY hO hi
    have k := qm_fst_neg hY.1 hr0
    have hC := hL.2.2.2.2.2.2.2.2.1 i hi
    have hll : (qm_fl g i L).length ≤ 200 := by
      have h1 : (qm_fl g i L).length ≤ L.length := List.length_filter_le ..
      have h2 := hL.2.2.1
      omega
    by_cases c : qm_bs (L.map g) i = true
    · have hne := qm_bs_fl.mp c
      have kr := k.1 c
      have ncc : ¬ p.2.2.2.2.2.2.2.2.2.2.2.2.2.2 (nI i).toNatClampNeg ≤ 0 := by
        rw [hci, hC.2.2.2]
        exact nI_nle (List.length_pos_iff.mpr hne) (by omega)
      by_cases cx : x = 0
      · cases z : qm_fl g i L with
        | nil => exact absurd z hne
        | cons s l =>
          obtain ⟨A, B, eL, hA, hm⟩ := qm_fl_split z
          subst eL
          have e3 : r0 = nI A.length := by
            have em : (A ++ s :: B).map g = A.map g ++ g s :: B.map g := by simp
            rw [em] at hr0
            have := qm_fst_some hr0 hm (qm_fl_nomem.mp hA)
            rwa [List.length_map] at this
          obtain ⟨r, u', v', hrel, wX, wY⟩ := qm_dslot (en := en) (ov := ov) (re := re) hG hR hS hH hW hL hY hO (by rw [hm]; exact hA)
          refine ⟨r, u', v', hrel, fun post hp => ?_, fun post hp => ?_⟩
          · refine br_f n81 (And.intro hii (br_f ncc (br_t cx (And.intro hii ?_))))
            rw [hci, hC.2.1, z]
            exact wX _ hp
          · refine br_f n81 (And.intro h9 (And.intro h9 (wf (qm_div9 hi) (qm_rem9 hi) (br_f kr (br_t cx ?_)))))
            rw [e3]
            exact wY _ hp
      · obtain ⟨r, u', v', hrel, wX, wY⟩ := qm_pick1 hG hR hS hH hW hL hY hO rel d (i + 1) (x + (-1)) (by omega)
        refine ⟨r, u', v', hrel, fun post hp => ?_, fun post hp => ?_⟩
        · exact br_f n81 (And.intro hii (br_f ncc (br_f cx (nm_e (nm_r (nI_1 _) (wX _ hp))))))
        · refine br_f n81 (And.intro h9 (And.intro h9 (wf (qm_div9 hi) (qm_rem9 hi) (br_f kr (br_f cx ?_)))))
          exact br_f kr (nm_e (nm_r (nI_1 _) (wY _ hp)))
    · have hne : qm_fl g i L = [] := by
        rcases Classical.em (qm_fl g i L = []) with z | z
        · exact z
        · exact absurd (qm_bs_fl.mpr z) c
      have kr := k.2 c
      have ncc : p.2.2.2.2.2.2.2.2.2.2.2.2.2.2 (nI i).toNatClampNeg ≤ 0 := by
        rw [hci, hC.2.2.2, hne]
        decide
      obtain ⟨r, u', v', hrel, wX, wY⟩ := qm_pick1 hG hR hS hH hW hL hY hO rel d (i + 1) x (by omega)
      refine ⟨r, u', v', hrel, fun post hp => ?_, fun post hp => ?_⟩
      · exact br_f n81 (And.intro hii (br_t ncc (nm_r (nI_1 _) (wX _ hp))))
      · refine br_f n81 (And.intro h9 (And.intro h9 (wf (qm_div9 hi) (qm_rem9 hi) (br_t kr ?_))))
        exact br_t kr (nm_r (nI_1 _) (wY _ hp))
theorem qm_deliverPick (hG : qm_G N W T qb) (hR : qm_R sv cv wn ph st ck) (hS : qm_S N W sg sd hb rb lb) (hH : qm_H N W hk lo ls) (hW : qm_Wt N W w wt lk ll lw) (hP : qm_P N W Q p y) (v1 : Int32) :
    qm_BB (fun post => wpX_deliverPick post (nI N, nI T, wn, p.1, p.2.1, p.2.2.1, p.2.2.2.1, p.2.2.2.2.1, qb, ph, st, ck, hb, rb, lb, en, ov, hk, lk, ll, lw, p.2.2.2.2.2.1, p.2.2.2.2.2.2.1, p.2.2.2.2.2.2.2.1, p.2.2.2.2.2.2.2.2.1, p.2.2.2.2.2.2.2.2.2.1, p.2.2.2.2.2.2.2.2.2.2.1, p.2.2.2.2.2.2.2.2.2.2.2.1, p.2.2.2.2.2.2.2.2.2.2.2.2.1, p.2.2.2.2.2.2.2.2.2.2.2.2.2.1, p.2.2.2.2.2.2.2.2.2.2.2.2.2.2) v1) (fun post => wpY_deliverPick post (nI W, nI N, nI T, y.1, ph, st, ck, en, ov, sd, lo, ls, wt, y.2.1, y.2.2.1, y.2.2.2.1, y.2.2.2.2, re) v1) := by
  have rel := qm_mk (en := en) (ov := ov) (re := re) hG hR hS hH hW hP
  obtain ⟨⟨L, F, g, hL, eQ⟩, hY, hO⟩ := hP
  have hbz := hL.2.2.2.2.2.2.2.2.2
  rw [← eQ] at hbz
  have c81 := qm_cnt_le (qm_bs Q) 81
  by_cases c : qm_cnt (qm_bs Q) 81 = 0
  · refine ⟨-4, _, _, rel, fun post hp => ?_, fun post hp => ⟨_, qm_ycnt hG.2.2.1 hY hO (fun _ => hp) (fun z => absurd c z) 81 0 rfl⟩⟩
    exact br_f (by rw [hbz, c]; decide) hp
  · subst eQ
    obtain ⟨r, u', v', hrel, wX, wY⟩ := qm_pick1 (en := en) (ov := ov) (re := re) hG hR hS hH hW hL hY hO rel 81 0 ((v1 &&& 2147483647) - (v1 &&& 2147483647) / nI (qm_cnt (qm_bs (L.map g)) 81) * nI (qm_cnt (qm_bs (L.map g)) 81)) rfl
    refine ⟨r, u', v', hrel, fun post hp => ?_, fun post hp => ⟨_, qm_ycnt hG.2.2.1 hY hO (fun z => absurd z c) (fun _ => ⟨_, wY _ hp⟩) 81 0 rfl⟩⟩
    refine br_t ?_ (And.intro ?_ (nm_r (e' := (v1 &&& 2147483647) - (v1 &&& 2147483647) / nI (qm_cnt (qm_bs (L.map g)) 81) * nI (qm_cnt (qm_bs (L.map g)) 81)) (by rw [hbz]) ⟨82, wX _ hp⟩))
    · rw [hbz]; exact nI_lt (a := 0) (by omega) (by omega)
    · rw [hbz]; exact nI_ne0 (by omega) (by omega)
end
/-- run: both sides in one step after another -/
theorem qm_run1 {M : Nat} (hM : M ≤ 64) : ∀ (d i : Nat), i + d = M → ∀ (u : SX) (v : SY), qm_Rel u v → qm_BB (fun post => wX_run_14 post (nI M) (d + 1) (nI i) (nI i) u.1 u.2.1 u.2.2.1 u.2.2.2.1 u.2.2.2.2.1 u.2.2.2.2.2.1 u.2.2.2.2.2.2.1 u.2.2.2.2.2.2.2.1 u.2.2.2.2.2.2.2.2.1 u.2.2.2.2.2.2.2.2.2.1 u.2.2.2.2.2.2.2.2.2.2.1 u.2.2.2.2.2.2.2.2.2.2.2.1 u.2.2.2.2.2.2.2.2.2.2.2.2.1 u.2.2.2.2.2.2.2.2.2.2.2.2.2.1 u.2.2.2.2.2.2.2.2.2.2.2.2.2.2.1 u.2.2.2.2.2.2.2.2.2.2.2.2.2.2.2.1 u.2.2.2.2.2.2.2.2.2.2.2.2.2.2.2.2.1 u.2.2.2.2.2.2.2.2.2.2.2.2.2.2.2.2.2.1 u.2.2.2.2.2.2.2.2.2.2.2.2.2.2.2.2.2.2.1 u.2.2.2.2.2.2.2.2.2.2.2.2.2.2.2.2.2.2.2.1 u.2.2.2.2.2.2.2.2.2.2.2.2.2.2.2.2.2.2.2.2.1 u.2.2.2.2.2.2.2.2.2.2.2.2.2.2.2.2.2.2.2.2.2.1 u.2.2.2.2.2.2.2.2.2.2.2.2.2.2.2.2.2.2.2.2.2.2.1 u.2.2.2.2.2.2.2.2.2.2.2.2.2.2.2.2.2.2.2.2.2.2.2.1 u.2.2.2.2.2.2.2.2.2.2.2.2.2.2.2.2.2.2.2.2.2.2.2.2.1 u.2.2.2.2.2.2.2.2.2.2.2.2.2.2.2.2.2.2.2.2.2.2.2.2.2.1 u.2.2.2.2.2.2.2.2.2.2.2.2.2.2.2.2.2.2.2.2.2.2.2.2.2.2.1 u.2.2.2.2.2.2.2.2.2.2.2.2.2.2.2.2.2.2.2.2.2.2.2.2.2.2.2.1 u.2.2.2.2.2.2.2.2.2.2.2.2.2.2.2.2.2.2.2.2.2.2.2.2.2.2.2.2.1 u.2.2.2.2.2.2.2.2.2.2.2.2.2.2.2.2.2.2.2.2.2.2.2.2.2.2.2.2.2.1 u.2.2.2.2.2.2.2.2.2.2.2.2.2.2.2.2.2.2.2.2.2.2.2.2.2.2.2.2.2.2) (fun post => wY_run_11 post (nI M) (d + 1) (nI i) v.1 v.2.1 v.2.2.1 v.2.2.2.1 v.2.2.2.2.1 v.2.2.2.2.2.1 v.2.2.2.2.2.2.1 v.2.2.2.2.2.2.2.1 v.2.2.2.2.2.2.2.2.1 v.2.2.2.2.2.2.2.2.2.1 v.2.2.2.2.2.2.2.2.2.2.1 v.2.2.2.2.2.2.2.2.2.2.2.1 v.2.2.2.2.2.2.2.2.2.2.2.2.1 v.2.2.2.2.2.2.2.2.2.2.2.2.2.1 v.2.2.2.2.2.2.2.2.2.2.2.2.2.2.1 v.2.2.2.2.2.2.2.2.2.2.2.2.2.2.2.1 v.2.2.2.2.2.2.2.2.2.2.2.2.2.2.2.2.1 v.2.2.2.2.2.2.2.2.2.2.2.2.2.2.2.2.2)
  | 0, i, hd, u, v, rel => by
    have e : i = M := by omega
    subst e
    exact ⟨nI i, u, v, rel, fun post hp => br_t (nI_le (Nat.le_refl _) (by omega)) hp, fun post hp => br_t (nI_le (Nat.le_refl _) (by omega)) hp⟩
  | d + 1, i, hd, u, v, rel => by
    have ih := qm_run1 hM d (i + 1) (by omega)
    have n1 : ¬ nI M ≤ nI i := nI_ge (by omega) (by omega)
    refine qm_el (P := fun u v => qm_BB (fun post => wX_run_14 post (nI M) (d + 1 + 1) (nI i) (nI i) u.1 u.2.1 u.2.2.1 u.2.2.2.1 u.2.2.2.2.1 u.2.2.2.2.2.1 u.2.2.2.2.2.2.1 u.2.2.2.2.2.2.2.1 u.2.2.2.2.2.2.2.2.1 u.2.2.2.2.2.2.2.2.2.1 u.2.2.2.2.2.2.2.2.2.2.1 u.2.2.2.2.2.2.2.2.2.2.2.1 u.2.2.2.2.2.2.2.2.2.2.2.2.1 u.2.2.2.2.2.2.2.2.2.2.2.2.2.1 u.2.2.2.2.2.2.2.2.2.2.2.2.2.2.1 u.2.2.2.2.2.2.2.2.2.2.2.2.2.2.2.1 u.2.2.2.2.2.2.2.2.2.2.2.2.2.2.2.2.1 u.2.2.2.2.2.2.2.2.2.2.2.2.2.2.2.2.2.1 u.2.2.2.2.2.2.2.2.2.2.2.2.2.2.2.2.2.2.1 u.2.2.2.2.2.2.2.2.2.2.2.2.2.2.2.2.2.2.2.1 u.2.2.2.2.2.2.2.2.2.2.2.2.2.2.2.2.2.2.2.2.1 u.2.2.2.2.2.2.2.2.2.2.2.2.2.2.2.2.2.2.2.2.2.1 u.2.2.2.2.2.2.2.2.2.2.2.2.2.2.2.2.2.2.2.2.2.2.1 u.2.2.2.2.2.2.2.2.2.2.2.2.2.2.2.2.2.2.2.2.2.2.2.1 u.2.2.2.2.2.2.2.2.2.2.2.2.2.2.2.2.2.2.2.2.2.2.2.2.1 u.2.2.2.2.2.2.2.2.2.2.2.2.2.2.2.2.2.2.2.2.2.2.2.2.2.1 u.2.2.2.2.2.2.2.2.2.2.2.2.2.2.2.2.2.2.2.2.2.2.2.2.2.2.1 u.2.2.2.2.2.2.2.2.2.2.2.2.2.2.2.2.2.2.2.2.2.2.2.2.2.2.2.1 u.2.2.2.2.2.2.2.2.2.2.2.2.2.2.2.2.2.2.2.2.2.2.2.2.2.2.2.2.1 u.2.2.2.2.2.2.2.2.2.2.2.2.2.2.2.2.2.2.2.2.2.2.2.2.2.2.2.2.2.1 u.2.2.2.2.2.2.2.2.2.2.2.2.2.2.2.2.2.2.2.2.2.2.2.2.2.2.2.2.2.2) (fun post => wY_run_11 post (nI M) (d + 1 + 1) (nI i) v.1 v.2.1 v.2.2.1 v.2.2.2.1 v.2.2.2.2.1 v.2.2.2.2.2.1 v.2.2.2.2.2.2.1 v.2.2.2.2.2.2.2.1 v.2.2.2.2.2.2.2.2.1 v.2.2.2.2.2.2.2.2.2.1 v.2.2.2.2.2.2.2.2.2.2.1 v.2.2.2.2.2.2.2.2.2.2.2.1 v.2.2.2.2.2.2.2.2.2.2.2.2.1 v.2.2.2.2.2.2.2.2.2.2.2.2.2.1 v.2.2.2.2.2.2.2.2.2.2.2.2.2.2.1 v.2.2.2.2.2.2.2.2.2.2.2.2.2.2.2.1 v.2.2.2.2.2.2.2.2.2.2.2.2.2.2.2.2.1 v.2.2.2.2.2.2.2.2.2.2.2.2.2.2.2.2.2)) ?_ rel
    intro N W T sv cv sg w Q wn p y qb ph st ck hb rb lb en ov hk lk ll lw sd lo ls wt re hG hR hS hH hW hP
    have rel' := qm_mk (en := en) (ov := ov) (re := re) hG hR hS hH hW hP
    have hy1 : y.1 = nI Q.length := hP.2.1.2.1
    have hy2 : Q.length ≤ 200 := hP.2.1.1
    have hx1 : p.2.2.2.1 = nI Q.length := by
      obtain ⟨L, F, g, hL, eQ⟩ := hP.1
      rw [hL.2.2.2.2.1, eQ, List.length_map]
    by_cases c : Q.length = 0
    · exact ⟨nI i, _, _, rel', fun post hp => br_f n1 (br_t (show p.2.2.2.1 ≤ 0 by rw [hx1, c]; decide) hp), fun post hp => br_f n1 (br_t (show y.1 = 0 by rw [hy1, c]; rfl) hp)⟩
    · have nx : ¬ p.2.2.2.1 ≤ 0 := by rw [hx1]; exact nI_nle (by omega) (by omega)
      have ny : ¬ y.1 = 0 := by rw [hy1]; exact nI_ne0 (by omega) (by omega)
      obtain ⟨r, u', v', hrel, wX, wY⟩ := qm_dold (en := en) (ov := ov) (re := re) hG hR hS hH hW hP
      by_cases c7 : r = 7
      · exact ⟨nI (i + 1), u', v', hrel, fun post hp => br_f n1 (br_f nx (wX _ (nm_r (nI_1 _) (br_t c7 hp)))), fun post hp => br_f n1 (br_f ny (wY _ (br_t c7 (by rw [nI_1]; exact hp))))⟩
      · obtain ⟨r2, u2, v2, hrel2, wX2, wY2⟩ := ih u' v' hrel
        exact ⟨r2, u2, v2, hrel2, fun post hp => br_f n1 (br_f nx (wX _ (nm_r (nI_1 _) (br_f c7 (nm_r (nI_1 _) (wX2 _ hp)))))), fun post hp => br_f n1 (br_f ny (wY _ (br_f c7 (nm_r (nI_1 _) (wY2 _ hp)))))⟩
theorem qm_clamp {lo hi : Nat} (h : lo ≤ hi) (hh : hi < 2 ^ 31) (v : Int32) : ∃ m, lo ≤ m ∧ m ≤ hi ∧ (∀ (u : SX) {post : Int32 → Prop}, post (nI m) → wpX_clamp post u v (nI lo) (nI hi)) ∧ ∀ (u : SY) {post : Int32 → Prop}, post (nI m) → wpY_clamp post u v (nI lo) (nI hi) := by
  by_cases c1 : nI lo ≤ v
  · have n0 : ¬ v < 0 := by
      have h0 : (0 : Int32) ≤ nI lo := nI_pos' (by omega)
      have := Int32.le_trans h0 c1
      exact Int32.not_lt.mpr this
    obtain ⟨j, hj, e⟩ := nI_of n0
    subst e
    rw [nI_leI (by omega) hj] at c1
    by_cases c2 : j ≤ hi
    · exact ⟨j, c1, c2, fun u _ hp => br_t (nI_le c1 hj) (br_t (nI_le c2 (by omega)) hp), fun u _ hp => br_t (nI_le c1 hj) (br_t (nI_le c2 (by omega)) hp)⟩
    · exact ⟨hi, h, Nat.le_refl _, fun u _ hp => br_t (nI_le c1 hj) (br_f (nI_ge (by omega) hj) hp), fun u _ hp => br_t (nI_le c1 hj) (br_f (nI_ge (by omega) hj) hp)⟩
  · exact ⟨lo, Nat.le_refl _, h, fun u _ hp => br_f c1 hp, fun u _ hp => br_f c1 hp⟩
theorem qm_run {u : SX} {v : SY} (rel : qm_Rel u v) (v1 : Int32) : qm_BB (fun post => wpX_run post u v1) (fun post => wpY_run post v v1) := by
  obtain ⟨M, h1, h2, wx, wy⟩ := qm_clamp (lo := 0) (hi := 64) (by decide) (by decide) v1
  obtain ⟨r, u', v', hrel, wX, wY⟩ := qm_run1 h2 M 0 (by omega) u v rel
  refine ⟨r, u', v', hrel, fun post hp => ?_, fun post hp => ?_⟩
  · unfold wpX_run
    exact wx u ⟨_, wX _ hp⟩
  · unfold wpY_run
    exact wy v ⟨_, wY _ hp⟩
end
section
/-! request, leave -/
section
variable {N W T : Nat} {sv cv sg w : Nat → Nat} {Q : List qm_M} {wn : Int32} {p : qm_PT} {y : qm_YT} {qb ph st ck hb rb lb en ov hk lk ll lw sd lo ls wt re : Nat → Int32}
theorem qm_qbits {n : Nat} (hG : qm_G N W T qb) (hn : n < N) : ∀ i, i < N → bt (qb n) i = qm_q W n i := by
  intro i hi
  rw [hG.2.2.2.2 n hn i (by have := hG.2.2.1; omega), Bool.eq_iff_iff, decide_eq_true_eq]
  exact ⟨fun z => z.2, fun z => ⟨hi, z⟩⟩
theorem qm_request (hG : qm_G N W T qb) (hR : qm_R sv cv wn ph st ck) (hS : qm_S N W sg sd hb rb lb) (hH : qm_H N W hk lo ls) (hW : qm_Wt N W w wt lk ll lw) (hP : qm_P N W Q p y) (v1 : Int32) :
    qm_BB (fun post => wpX_request post (nI N, nI T, wn, p.1, p.2.1, p.2.2.1, p.2.2.2.1, p.2.2.2.2.1, qb, ph, st, ck, hb, rb, lb, en, ov, hk, lk, ll, lw, p.2.2.2.2.2.1, p.2.2.2.2.2.2.1, p.2.2.2.2.2.2.2.1, p.2.2.2.2.2.2.2.2.1, p.2.2.2.2.2.2.2.2.2.1, p.2.2.2.2.2.2.2.2.2.2.1, p.2.2.2.2.2.2.2.2.2.2.2.1, p.2.2.2.2.2.2.2.2.2.2.2.2.1, p.2.2.2.2.2.2.2.2.2.2.2.2.2.1, p.2.2.2.2.2.2.2.2.2.2.2.2.2.2) v1) (fun post => wpY_request post (nI W, nI N, nI T, y.1, ph, st, ck, en, ov, sd, lo, ls, wt, y.2.1, y.2.2.1, y.2.2.2.1, y.2.2.2.2, re) v1) := by
  obtain ⟨hW1, hW3, hN, hT, hQB⟩ := id hG
  obtain ⟨r1, r2, r3, r4, r5, r6⟩ := id hR
  have rel := qm_mk (en := en) (ov := ov) (re := re) hG hR hS hH hW hP
  rcases qm_rng N hN v1 with ⟨n, hn, e1⟩ | o1
  · subst e1
    have hn9 : n < 9 := by omega
    have hin : vp_in (nI n) 9 := vp_in_nI hn9 (by decide)
    have hcn : (nI n).toNatClampNeg = n := nI_clamp (by omega)
    by_cases c1 : ph n = 0
    · have hc9 := r5 n
      by_cases c2 : cv n < T
      · have lt : ck (nI n).toNatClampNeg < nI T := by rw [hcn, r4 n]; exact nI_lt c2 (by omega)
        have es : ck (nI n).toNatClampNeg + 1 = nI (cv n + 1) := by rw [hcn, r4 n, nI_1]
        obtain ⟨sd', hsd, wset⟩ := qm_yset hW1 hW3 hN hn9 0 hS.1
        have hSB := qm_SB_sv (v := 0) (xh := 0) hS.2 hn hN (by decide) (fun i hi => by rw [b_0]; simp)
        obtain ⟨p', hp', wX⟩ := qm_xall (k := 1) (f := n) (s := cv n + 1) hN hn9 (qm_qbits hG hn) hP.1
        obtain ⟨y', hy', wY⟩ := qm_yall (k := 1) (st := upd st n (nI (cv n + 1))) (s := cv n + 1) hW1 hW3 hN hn9 pk_us hP.2.1
        have hR' : qm_R (qm_up sv n (cv n + 1)) (qm_up cv n (cv n + 1)) (wn ||| ((1 : Int32) <<< (nI n &&& 31))) (upd ph n 1) (upd st n (nI (cv n + 1))) (upd ck n (nI (cv n + 1))) := by
          refine ⟨qm_rep_up r1 _ _, fun i => ?_, fun i hi => ?_, qm_rep_up r4 _ _, fun i => ?_, fun m hm => ?_⟩
          · by_cases e : i = n
            · rw [e, qm_us]; omega
            · rw [qm_un e]; exact r2 i
          · by_cases e : i = n
            · rw [e, qm_us]; omega
            · rw [pk_un e] at hi
              rw [qm_un e]; exact r3 i hi
          · by_cases e : i = n
            · rw [e, qm_us]; omega
            · rw [qm_un e]; exact r5 i
          · rw [qm_bst (by omega) (by omega), r6 m hm]
            by_cases e : m = n
            · subst e
              rw [pk_us]
              simp
            · rw [pk_un e]
              simp [e]
        refine ⟨nI (cv n + 1), (nI N, nI T, wn ||| ((1 : Int32) <<< (nI n &&& 31)), p'.1, p'.2.1, p'.2.2.1, p'.2.2.2.1, p'.2.2.2.2.1, qb, upd ph n 1, upd st n (nI (cv n + 1)), upd ck n (nI (cv n + 1)), upd hb n 0, upd rb n 0, upd lb n 0, en, upd ov n 0, hk, lk, ll, lw, p'.2.2.2.2.2.1, p'.2.2.2.2.2.2.1, p'.2.2.2.2.2.2.2.1, p'.2.2.2.2.2.2.2.2.1, p'.2.2.2.2.2.2.2.2.2.1, p'.2.2.2.2.2.2.2.2.2.2.1, p'.2.2.2.2.2.2.2.2.2.2.2.1, p'.2.2.2.2.2.2.2.2.2.2.2.2.1, p'.2.2.2.2.2.2.2.2.2.2.2.2.2.1, p'.2.2.2.2.2.2.2.2.2.2.2.2.2.2), (nI W, nI N, nI T, y'.1, upd ph n 1, upd st n (nI (cv n + 1)), upd ck n (nI (cv n + 1)), en, upd ov n 0, sd', lo, ls, wt, y'.2.1, y'.2.2.1, y'.2.2.2.1, y'.2.2.2.2, re),
          qm_mk hG hR' ⟨hsd, hSB⟩ hH hW ⟨hp', hy', qm_QO_sa hP.2.2 (fun j hj hc => qm_OKi (by decide) (by decide) hn hj hc (by omega) (by omega))⟩, fun post hp => ?_, fun post hp => ?_⟩
        · unfold wpX_request
          refine qm_xin_t hN hn (br_f (by decide) (And.intro hin (br_t (by rw [hcn]; exact c1) (And.intro hin (br_t lt (And.intro hin (nm_r es (And.intro hin (nm_r (e' := upd ck n (nI (cv n + 1))) (by rw [hcn]) (And.intro hin (nm_r (e' := upd st n (nI (cv n + 1))) (by rw [hcn]) (And.intro hin (nm_r (e' := upd ph n 1) (by rw [hcn]) (nm_e ?_))))))))))))))
          refine And.intro hin (nm_r (e' := upd hb n 0) (by rw [hcn]) (And.intro hin (nm_r (e' := upd rb n 0) (by rw [hcn]) (And.intro hin (nm_r (e' := upd lb n 0) (by rw [hcn]) ?_)))))
          refine And.intro hin (nm_r (e' := upd ov n 0) (by rw [hcn]) (And.intro hin ?_))
          rw [hcn]
          exact wX hp
        · unfold wpY_request
          refine qm_yin_t hN hn (br_f (by decide) (And.intro hin (br_t (by rw [hcn]; exact c1) (And.intro hin (br_t lt (And.intro hin (And.intro hin (nm_r (e' := upd ck n (nI (cv n + 1))) (by rw [es, hcn]) (And.intro hin (And.intro hin (nm_r (e' := upd st n (nI (cv n + 1))) (by rw [hcn, pk_us]) (And.intro hin (nm_r (e' := upd ph n 1) (by rw [hcn]) ?_)))))))))))))
          refine wset ?_
          refine And.intro hin (nm_r (e' := upd ov n 0) (by rw [hcn]) ?_)
          refine wY ?_
          refine And.intro hin ?_
          rw [hcn, pk_us]
          exact hp
      · have nlt : ¬ ck (nI n).toNatClampNeg < nI T := by rw [hcn, r4 n]; exact nI_nlt (by omega) (by omega)
        refine ⟨-3, _, _, rel, fun post hp => ?_, fun post hp => ?_⟩
        · unfold wpX_request
          exact qm_xin_t hN hn (br_f (by decide) (And.intro hin (br_t (by rw [hcn]; exact c1) (And.intro hin (br_f nlt hp)))))
        · unfold wpY_request
          exact qm_yin_t hN hn (br_f (by decide) (And.intro hin (br_t (by rw [hcn]; exact c1) (And.intro hin (br_f nlt hp)))))
    · refine ⟨-2, _, _, rel, fun post hp => ?_, fun post hp => ?_⟩
      · unfold wpX_request
        exact qm_xin_t hN hn (br_f (by decide) (And.intro hin (br_f (by rw [hcn]; exact c1) hp)))
      · unfold wpY_request
        exact qm_yin_t hN hn (br_f (by decide) (And.intro hin (br_f (by rw [hcn]; exact c1) hp)))
  · refine ⟨-1, _, _, rel, fun post hp => ?_, fun post hp => ?_⟩
    · unfold wpX_request
      exact qm_xin_f o1 (br_t rfl hp)
    · unfold wpY_request
      exact qm_yin_f o1 (br_t rfl hp)
theorem qm_leave (hG : qm_G N W T qb) (hR : qm_R sv cv wn ph st ck) (hS : qm_S N W sg sd hb rb lb) (hH : qm_H N W hk lo ls) (hW : qm_Wt N W w wt lk ll lw) (hP : qm_P N W Q p y) (v1 : Int32) :
    qm_BB (fun post => wpX_leave post (nI N, nI T, wn, p.1, p.2.1, p.2.2.1, p.2.2.2.1, p.2.2.2.2.1, qb, ph, st, ck, hb, rb, lb, en, ov, hk, lk, ll, lw, p.2.2.2.2.2.1, p.2.2.2.2.2.2.1, p.2.2.2.2.2.2.2.1, p.2.2.2.2.2.2.2.2.1, p.2.2.2.2.2.2.2.2.2.1, p.2.2.2.2.2.2.2.2.2.2.1, p.2.2.2.2.2.2.2.2.2.2.2.1, p.2.2.2.2.2.2.2.2.2.2.2.2.1, p.2.2.2.2.2.2.2.2.2.2.2.2.2.1, p.2.2.2.2.2.2.2.2.2.2.2.2.2.2) v1) (fun post => wpY_leave post (nI W, nI N, nI T, y.1, ph, st, ck, en, ov, sd, lo, ls, wt, y.2.1, y.2.2.1, y.2.2.2.1, y.2.2.2.2, re) v1) := by
  obtain ⟨hW1, hW3, hN, hT, hQB⟩ := id hG
  obtain ⟨r1, r2, r3, r4, r5, r6⟩ := id hR
  have rel := qm_mk (en := en) (ov := ov) (re := re) hG hR hS hH hW hP
  rcases qm_rng N hN v1 with ⟨n, hn, e1⟩ | o1
  · subst e1
    have hn9 : n < 9 := by omega
    have hin : vp_in (nI n) 9 := vp_in_nI hn9 (by decide)
    have hcn : (nI n).toNatClampNeg = n := nI_clamp (by omega)
    by_cases c1 : ph n = 2
    · have hs1 : 1 ≤ sv n := r3 n (by rw [c1]; decide)
      obtain ⟨sd', hsd, wset⟩ := qm_yset hW1 hW3 hN hn9 0 hS.1
      have hSB := qm_SB_sv (v := 0) (xh := 0) hS.2 hn hN (by decide) (fun i hi => by rw [b_0]; simp)
      obtain ⟨p', hp', wX⟩ := qm_xall (k := 6) (f := n) (s := sv n) hN hn9 (qm_qbits hG hn) hP.1
      obtain ⟨y', hy', wY⟩ := qm_yall (k := 6) (st := st) (s := sv n) hW1 hW3 hN hn9 (r1 n) hP.2.1
      have hR' : qm_R (qm_up sv n 0) cv wn (upd ph n 0) (upd st n (nI 0)) ck := by
        refine ⟨qm_rep_up r1 _ _, fun i => ?_, fun i hi => ?_, r4, r5, fun m hm => ?_⟩
        · by_cases e : i = n
          · rw [e, qm_us]; omega
          · rw [qm_un e]; exact r2 i
        · by_cases e : i = n
          · rw [e, pk_us] at hi; exact absurd rfl hi
          · rw [pk_un e] at hi
            rw [qm_un e]; exact r3 i hi
        · rw [r6 m hm]
          by_cases e : m = n
          · subst e
            rw [pk_us, c1]; decide
          · rw [pk_un e]
      refine ⟨1, (nI N, nI T, wn, p'.1, p'.2.1, p'.2.2.1, p'.2.2.2.1, p'.2.2.2.2.1, qb, upd ph n 0, upd st n (nI 0), ck, upd hb n 0, upd rb n 0, upd lb n 0, en, ov, hk, lk, ll, lw, p'.2.2.2.2.2.1, p'.2.2.2.2.2.2.1, p'.2.2.2.2.2.2.2.1, p'.2.2.2.2.2.2.2.2.1, p'.2.2.2.2.2.2.2.2.2.1, p'.2.2.2.2.2.2.2.2.2.2.1, p'.2.2.2.2.2.2.2.2.2.2.2.1, p'.2.2.2.2.2.2.2.2.2.2.2.2.1, p'.2.2.2.2.2.2.2.2.2.2.2.2.2.1, p'.2.2.2.2.2.2.2.2.2.2.2.2.2.2), (nI W, nI N, nI T, y'.1, upd ph n 0, upd st n (nI 0), ck, en, ov, sd', lo, ls, wt, y'.2.1, y'.2.2.1, y'.2.2.2.1, y'.2.2.2.2, re),
        qm_mk hG hR' ⟨hsd, hSB⟩ hH hW ⟨hp', hy', qm_QO_sa hP.2.2 (fun j hj hc => qm_OKi (by decide) (by decide) hn hj hc hs1 (r2 n))⟩, fun post hp => ?_, fun post hp => ?_⟩
      · unfold wpX_leave
        refine qm_xin_t hN hn (br_f (by decide) (And.intro hin (br_t (by rw [hcn]; exact c1) (And.intro hin (And.intro hin ?_)))))
        rw [hcn, r1 n]
        refine wX ?_
        refine And.intro hin (nm_r (e' := upd ph n 0) rfl (And.intro hin (nm_r (e' := upd st n (nI 0)) rfl ?_)))
        exact And.intro hin (nm_r (e' := upd hb n 0) (by rw [hcn]) (And.intro hin (nm_r (e' := upd rb n 0) (by rw [hcn]) (And.intro hin (nm_r (e' := upd lb n 0) (by rw [hcn]) hp)))))
      · unfold wpY_leave
        refine qm_yin_t hN hn (br_f (by decide) (And.intro hin (br_t (by rw [hcn]; exact c1) ?_)))
        refine wY ?_
        refine And.intro hin (nm_r (e' := upd ph n 0) (by rw [hcn]) (And.intro hin (nm_r (e' := upd st n (nI 0)) (by rw [hcn]; rfl) ?_)))
        exact wset hp
    · refine ⟨-2, _, _, rel, fun post hp => ?_, fun post hp => ?_⟩
      · unfold wpX_leave
        exact qm_xin_t hN hn (br_f (by decide) (And.intro hin (br_f (by rw [hcn]; exact c1) hp)))
      · unfold wpY_leave
        exact qm_yin_t hN hn (br_f (by decide) (And.intro hin (br_f (by rw [hcn]; exact c1) hp)))
  · refine ⟨-1, _, _, rel, fun post hp => ?_, fun post hp => ?_⟩
    · unfold wpX_leave
      exact qm_xin_f o1 (br_t rfl hp)
    · unfold wpY_leave
      exact qm_yin_f o1 (br_t rfl hp)
end
end
section
/-! getters that read one place -/
def qm_B0 (WX WY : (Int32 → Prop) → Prop) : Prop := ∃ r, (∀ post : Int32 → Prop, post r → WX post) ∧ ∀ post : Int32 → Prop, post r → WY post
section
variable {N W T : Nat} {sv cv sg w : Nat → Nat} {Q : List qm_M} {wn : Int32} {p : qm_PT} {y : qm_YT} {qb ph st ck hb rb lb en ov hk lk ll lw sd lo ls wt re : Nat → Int32}
theorem qm_phase (hG : qm_G N W T qb) (v1 : Int32) : qm_B0 (fun post => wpX_phase post (nI N, nI T, wn, p.1, p.2.1, p.2.2.1, p.2.2.2.1, p.2.2.2.2.1, qb, ph, st, ck, hb, rb, lb, en, ov, hk, lk, ll, lw, p.2.2.2.2.2.1, p.2.2.2.2.2.2.1, p.2.2.2.2.2.2.2.1, p.2.2.2.2.2.2.2.2.1, p.2.2.2.2.2.2.2.2.2.1, p.2.2.2.2.2.2.2.2.2.2.1, p.2.2.2.2.2.2.2.2.2.2.2.1, p.2.2.2.2.2.2.2.2.2.2.2.2.1, p.2.2.2.2.2.2.2.2.2.2.2.2.2.1, p.2.2.2.2.2.2.2.2.2.2.2.2.2.2) v1) (fun post => wpY_phase post (nI W, nI N, nI T, y.1, ph, st, ck, en, ov, sd, lo, ls, wt, y.2.1, y.2.2.1, y.2.2.2.1, y.2.2.2.2, re) v1) := by
  have hN := hG.2.2.1
  rcases qm_rng N hN v1 with ⟨n, hn, e1⟩ | o1
  · subst e1
    have hin : vp_in (nI n) 9 := vp_in_nI (by omega) (by decide)
    refine ⟨ph (nI n).toNatClampNeg, fun post hp => ?_, fun post hp => ?_⟩
    · unfold wpX_phase
      exact qm_xin_t hN hn (br_f (by decide) (And.intro hin hp))
    · unfold wpY_phase
      exact qm_yin_t hN hn (br_f (by decide) (And.intro hin hp))
  · refine ⟨-1, fun post hp => ?_, fun post hp => ?_⟩
    · unfold wpX_phase
      exact qm_xin_f o1 (br_t rfl hp)
    · unfold wpY_phase
      exact qm_yin_f o1 (br_t rfl hp)
theorem qm_stamp (hG : qm_G N W T qb) (v1 : Int32) : qm_B0 (fun post => wpX_stamp post (nI N, nI T, wn, p.1, p.2.1, p.2.2.1, p.2.2.2.1, p.2.2.2.2.1, qb, ph, st, ck, hb, rb, lb, en, ov, hk, lk, ll, lw, p.2.2.2.2.2.1, p.2.2.2.2.2.2.1, p.2.2.2.2.2.2.2.1, p.2.2.2.2.2.2.2.2.1, p.2.2.2.2.2.2.2.2.2.1, p.2.2.2.2.2.2.2.2.2.2.1, p.2.2.2.2.2.2.2.2.2.2.2.1, p.2.2.2.2.2.2.2.2.2.2.2.2.1, p.2.2.2.2.2.2.2.2.2.2.2.2.2.1, p.2.2.2.2.2.2.2.2.2.2.2.2.2.2) v1) (fun post => wpY_stamp post (nI W, nI N, nI T, y.1, ph, st, ck, en, ov, sd, lo, ls, wt, y.2.1, y.2.2.1, y.2.2.2.1, y.2.2.2.2, re) v1) := by
  have hN := hG.2.2.1
  rcases qm_rng N hN v1 with ⟨n, hn, e1⟩ | o1
  · subst e1
    have hin : vp_in (nI n) 9 := vp_in_nI (by omega) (by decide)
    refine ⟨st (nI n).toNatClampNeg, fun post hp => ?_, fun post hp => ?_⟩
    · unfold wpX_stamp
      exact qm_xin_t hN hn (br_f (by decide) (And.intro hin hp))
    · unfold wpY_stamp
      exact qm_yin_t hN hn (br_f (by decide) (And.intro hin hp))
  · refine ⟨-1, fun post hp => ?_, fun post hp => ?_⟩
    · unfold wpX_stamp
      exact qm_xin_f o1 (br_t rfl hp)
    · unfold wpY_stamp
      exact qm_yin_f o1 (br_t rfl hp)
theorem qm_clock (hG : qm_G N W T qb) (v1 : Int32) : qm_B0 (fun post => wpX_clock post (nI N, nI T, wn, p.1, p.2.1, p.2.2.1, p.2.2.2.1, p.2.2.2.2.1, qb, ph, st, ck, hb, rb, lb, en, ov, hk, lk, ll, lw, p.2.2.2.2.2.1, p.2.2.2.2.2.2.1, p.2.2.2.2.2.2.2.1, p.2.2.2.2.2.2.2.2.1, p.2.2.2.2.2.2.2.2.2.1, p.2.2.2.2.2.2.2.2.2.2.1, p.2.2.2.2.2.2.2.2.2.2.2.1, p.2.2.2.2.2.2.2.2.2.2.2.2.1, p.2.2.2.2.2.2.2.2.2.2.2.2.2.1, p.2.2.2.2.2.2.2.2.2.2.2.2.2.2) v1) (fun post => wpY_clock post (nI W, nI N, nI T, y.1, ph, st, ck, en, ov, sd, lo, ls, wt, y.2.1, y.2.2.1, y.2.2.2.1, y.2.2.2.2, re) v1) := by
  have hN := hG.2.2.1
  rcases qm_rng N hN v1 with ⟨n, hn, e1⟩ | o1
  · subst e1
    have hin : vp_in (nI n) 9 := vp_in_nI (by omega) (by decide)
    refine ⟨ck (nI n).toNatClampNeg, fun post hp => ?_, fun post hp => ?_⟩
    · unfold wpX_clock
      exact qm_xin_t hN hn (br_f (by decide) (And.intro hin hp))
    · unfold wpY_clock
      exact qm_yin_t hN hn (br_f (by decide) (And.intro hin hp))
  · refine ⟨-1, fun post hp => ?_, fun post hp => ?_⟩
    · unfold wpX_clock
      exact qm_xin_f o1 (br_t rfl hp)
    · unfold wpY_clock
      exact qm_yin_f o1 (br_t rfl hp)
theorem qm_overtaken (hG : qm_G N W T qb) (v1 : Int32) : qm_B0 (fun post => wpX_overtaken post (nI N, nI T, wn, p.1, p.2.1, p.2.2.1, p.2.2.2.1, p.2.2.2.2.1, qb, ph, st, ck, hb, rb, lb, en, ov, hk, lk, ll, lw, p.2.2.2.2.2.1, p.2.2.2.2.2.2.1, p.2.2.2.2.2.2.2.1, p.2.2.2.2.2.2.2.2.1, p.2.2.2.2.2.2.2.2.2.1, p.2.2.2.2.2.2.2.2.2.2.1, p.2.2.2.2.2.2.2.2.2.2.2.1, p.2.2.2.2.2.2.2.2.2.2.2.2.1, p.2.2.2.2.2.2.2.2.2.2.2.2.2.1, p.2.2.2.2.2.2.2.2.2.2.2.2.2.2) v1) (fun post => wpY_overtaken post (nI W, nI N, nI T, y.1, ph, st, ck, en, ov, sd, lo, ls, wt, y.2.1, y.2.2.1, y.2.2.2.1, y.2.2.2.2, re) v1) := by
  have hN := hG.2.2.1
  rcases qm_rng N hN v1 with ⟨n, hn, e1⟩ | o1
  · subst e1
    have hin : vp_in (nI n) 9 := vp_in_nI (by omega) (by decide)
    refine ⟨ov (nI n).toNatClampNeg, fun post hp => ?_, fun post hp => ?_⟩
    · unfold wpX_overtaken
      exact qm_xin_t hN hn (br_f (by decide) (And.intro hin hp))
    · unfold wpY_overtaken
      exact qm_yin_t hN hn (br_f (by decide) (And.intro hin hp))
  · refine ⟨-1, fun post hp => ?_, fun post hp => ?_⟩
    · unfold wpX_overtaken
      exact qm_xin_f o1 (br_t rfl hp)
    · unfold wpY_overtaken
      exact qm_yin_f o1 (br_t rfl hp)
theorem qm_entries (hG : qm_G N W T qb) (v1 : Int32) : qm_B0 (fun post => wpX_entries post (nI N, nI T, wn, p.1, p.2.1, p.2.2.1, p.2.2.2.1, p.2.2.2.2.1, qb, ph, st, ck, hb, rb, lb, en, ov, hk, lk, ll, lw, p.2.2.2.2.2.1, p.2.2.2.2.2.2.1, p.2.2.2.2.2.2.2.1, p.2.2.2.2.2.2.2.2.1, p.2.2.2.2.2.2.2.2.2.1, p.2.2.2.2.2.2.2.2.2.2.1, p.2.2.2.2.2.2.2.2.2.2.2.1, p.2.2.2.2.2.2.2.2.2.2.2.2.1, p.2.2.2.2.2.2.2.2.2.2.2.2.2.1, p.2.2.2.2.2.2.2.2.2.2.2.2.2.2) v1) (fun post => wpY_entries post (nI W, nI N, nI T, y.1, ph, st, ck, en, ov, sd, lo, ls, wt, y.2.1, y.2.2.1, y.2.2.2.1, y.2.2.2.2, re) v1) := by
  have hN := hG.2.2.1
  rcases qm_rng N hN v1 with ⟨n, hn, e1⟩ | o1
  · subst e1
    have hin : vp_in (nI n) 9 := vp_in_nI (by omega) (by decide)
    refine ⟨en (nI n).toNatClampNeg, fun post hp => ?_, fun post hp => ?_⟩
    · unfold wpX_entries
      exact qm_xin_t hN hn (br_f (by decide) (And.intro hin hp))
    · unfold wpY_entries
      exact qm_yin_t hN hn (br_f (by decide) (And.intro hin hp))
  · refine ⟨-1, fun post hp => ?_, fun post hp => ?_⟩
    · unfold wpX_entries
      exact qm_xin_f o1 (br_t rfl hp)
    · unfold wpY_entries
      exact qm_yin_f o1 (br_t rfl hp)
theorem qm_holder (hG : qm_G N W T qb) (hH : qm_H N W hk lo ls) (v1 : Int32) : qm_B0 (fun post => wpX_holder post (nI N, nI T, wn, p.1, p.2.1, p.2.2.1, p.2.2.2.1, p.2.2.2.2.1, qb, ph, st, ck, hb, rb, lb, en, ov, hk, lk, ll, lw, p.2.2.2.2.2.1, p.2.2.2.2.2.2.1, p.2.2.2.2.2.2.2.1, p.2.2.2.2.2.2.2.2.1, p.2.2.2.2.2.2.2.2.2.1, p.2.2.2.2.2.2.2.2.2.2.1, p.2.2.2.2.2.2.2.2.2.2.2.1, p.2.2.2.2.2.2.2.2.2.2.2.2.1, p.2.2.2.2.2.2.2.2.2.2.2.2.2.1, p.2.2.2.2.2.2.2.2.2.2.2.2.2.2) v1) (fun post => wpY_holder post (nI W, nI N, nI T, y.1, ph, st, ck, en, ov, sd, lo, ls, wt, y.2.1, y.2.2.1, y.2.2.2.1, y.2.2.2.2, re) v1) := by
  have hN := hG.2.2.1
  rcases qm_rng N hN v1 with ⟨n, hn, e1⟩ | o1
  · subst e1
    have hin : vp_in (nI n) 9 := vp_in_nI (by omega) (by decide)
    have hcn : (nI n).toNatClampNeg = n := nI_clamp (by omega)
    rcases hH n (by omega) with ⟨e1, e2, e3⟩ | ⟨m, t, h1, h2, h3, h4, e1, e2, e3⟩
    · refine ⟨-4, fun post hp => ?_, fun post hp => ?_⟩
      · unfold wpX_holder
        exact qm_xin_t hN hn (br_f (by decide) (And.intro hin (br_f (by rw [hcn, e1]; decide) hp)))
      · unfold wpY_holder
        exact qm_yin_t hN hn (br_f (by decide) (And.intro hin (br_f (by rw [hcn, e2]; decide) hp)))
    · have e15 : nI (16 * t + m) &&& 15 = nI m := by rw [qm_k15 (by omega)]; exact congrArg nI (by omega)
      refine ⟨nI m, fun post hp => ?_, fun post hp => ?_⟩
      · unfold wpX_holder
        refine qm_xin_t hN hn (br_f (by decide) (And.intro hin (br_t (by rw [hcn, e1]; exact nI_pos' (by omega)) (And.intro hin ?_))))
        rw [hcn, e1, e15]
        exact hp
      · unfold wpY_holder
        refine qm_yin_t hN hn (br_f (by decide) (And.intro hin (br_t (by rw [hcn, e2]; exact nI_pos' (by omega)) (And.intro hin ?_))))
        rw [hcn, e2]
        exact hp
  · refine ⟨-1, fun post hp => ?_, fun post hp => ?_⟩
    · unfold wpX_holder
      exact qm_xin_f o1 (br_t rfl hp)
    · unfold wpY_holder
      exact qm_yin_f o1 (br_t rfl hp)
theorem qm_holderStamp (hG : qm_G N W T qb) (hH : qm_H N W hk lo ls) (v1 : Int32) : qm_B0 (fun post => wpX_holderStamp post (nI N, nI T, wn, p.1, p.2.1, p.2.2.1, p.2.2.2.1, p.2.2.2.2.1, qb, ph, st, ck, hb, rb, lb, en, ov, hk, lk, ll, lw, p.2.2.2.2.2.1, p.2.2.2.2.2.2.1, p.2.2.2.2.2.2.2.1, p.2.2.2.2.2.2.2.2.1, p.2.2.2.2.2.2.2.2.2.1, p.2.2.2.2.2.2.2.2.2.2.1, p.2.2.2.2.2.2.2.2.2.2.2.1, p.2.2.2.2.2.2.2.2.2.2.2.2.1, p.2.2.2.2.2.2.2.2.2.2.2.2.2.1, p.2.2.2.2.2.2.2.2.2.2.2.2.2.2) v1) (fun post => wpY_holderStamp post (nI W, nI N, nI T, y.1, ph, st, ck, en, ov, sd, lo, ls, wt, y.2.1, y.2.2.1, y.2.2.2.1, y.2.2.2.2, re) v1) := by
  have hN := hG.2.2.1
  rcases qm_rng N hN v1 with ⟨n, hn, e1⟩ | o1
  · subst e1
    have hin : vp_in (nI n) 9 := vp_in_nI (by omega) (by decide)
    have hcn : (nI n).toNatClampNeg = n := nI_clamp (by omega)
    rcases hH n (by omega) with ⟨e1, e2, e3⟩ | ⟨m, t, h1, h2, h3, h4, e1, e2, e3⟩
    · refine ⟨0, fun post hp => ?_, fun post hp => ?_⟩
      · unfold wpX_holderStamp
        exact qm_xin_t hN hn (br_f (by decide) (And.intro hin (br_f (by rw [hcn, e1]; decide) hp)))
      · unfold wpY_holderStamp
        refine qm_yin_t hN hn (br_f (by decide) (And.intro hin ?_))
        rw [hcn, e3]
        exact hp
    · have e4 : nI (16 * t + m) >>> ((4 : Int32) &&& 31) = nI t := by rw [qm_k4 (by omega)]; exact congrArg nI (by omega)
      refine ⟨nI t, fun post hp => ?_, fun post hp => ?_⟩
      · unfold wpX_holderStamp
        refine qm_xin_t hN hn (br_f (by decide) (And.intro hin (br_t (by rw [hcn, e1]; exact nI_pos' (by omega)) (And.intro hin ?_))))
        rw [hcn, e1, e4]
        exact hp
      · unfold wpY_holderStamp
        refine qm_yin_t hN hn (br_f (by decide) (And.intro hin ?_))
        rw [hcn, e3]
        exact hp
  · refine ⟨-1, fun post hp => ?_, fun post hp => ?_⟩
    · unfold wpX_holderStamp
      exact qm_xin_f o1 (br_t rfl hp)
    · unfold wpY_holderStamp
      exact qm_yin_f o1 (br_t rfl hp)
theorem qm_inFlight (hP : qm_P N W Q p y) : qm_B0 (fun post => wpX_inFlight post (nI N, nI T, wn, p.1, p.2.1, p.2.2.1, p.2.2.2.1, p.2.2.2.2.1, qb, ph, st, ck, hb, rb, lb, en, ov, hk, lk, ll, lw, p.2.2.2.2.2.1, p.2.2.2.2.2.2.1, p.2.2.2.2.2.2.2.1, p.2.2.2.2.2.2.2.2.1, p.2.2.2.2.2.2.2.2.2.1, p.2.2.2.2.2.2.2.2.2.2.1, p.2.2.2.2.2.2.2.2.2.2.2.1, p.2.2.2.2.2.2.2.2.2.2.2.2.1, p.2.2.2.2.2.2.2.2.2.2.2.2.2.1, p.2.2.2.2.2.2.2.2.2.2.2.2.2.2)) (fun post => wpY_inFlight post (nI W, nI N, nI T, y.1, ph, st, ck, en, ov, sd, lo, ls, wt, y.2.1, y.2.2.1, y.2.2.2.1, y.2.2.2.2, re)) := by
  have hx1 : p.2.2.2.1 = nI Q.length := by
    obtain ⟨L, F, g, hL, eQ⟩ := hP.1
    rw [hL.2.2.2.2.1, eQ, List.length_map]
  refine ⟨nI Q.length, fun post hp => ?_, fun post hp => ?_⟩
  · show post p.2.2.2.1
    rw [hx1]
    exact hp
  · show post y.1
    rw [hP.2.1.2.1]
    exact hp
theorem qm_standing (hG : qm_G N W T qb) (hS : qm_S N W sg sd hb rb lb) (v1 v2 : Int32) : qm_B0 (fun post => wpX_standing post (nI N, nI T, wn, p.1, p.2.1, p.2.2.1, p.2.2.2.1, p.2.2.2.2.1, qb, ph, st, ck, hb, rb, lb, en, ov, hk, lk, ll, lw, p.2.2.2.2.2.1, p.2.2.2.2.2.2.1, p.2.2.2.2.2.2.2.1, p.2.2.2.2.2.2.2.2.1, p.2.2.2.2.2.2.2.2.2.1, p.2.2.2.2.2.2.2.2.2.2.1, p.2.2.2.2.2.2.2.2.2.2.2.1, p.2.2.2.2.2.2.2.2.2.2.2.2.1, p.2.2.2.2.2.2.2.2.2.2.2.2.2.1, p.2.2.2.2.2.2.2.2.2.2.2.2.2.2) v1 v2) (fun post => wpY_standing post (nI W, nI N, nI T, y.1, ph, st, ck, en, ov, sd, lo, ls, wt, y.2.1, y.2.2.1, y.2.2.2.1, y.2.2.2.2, re) v1 v2) := by
  obtain ⟨hW1, hW3, hN, hT, hQB⟩ := id hG
  rcases qm_rng N hN v1 with ⟨n, hn, e1⟩ | o1
  · subst e1
    have hin : vp_in (nI n) 9 := vp_in_nI (by omega) (by decide)
    have hcn : (nI n).toNatClampNeg = n := nI_clamp (by omega)
    rcases qm_rng N hN v2 with ⟨a, ha, e2⟩ | o2
    · subst e2
      have hqb := hQB n hn a (by omega)
      by_cases c : qm_q W n a = true
      · have ej : nI n * 9 + nI a = nI (n * 9 + a) := qm_idx
        have hij : vp_in (nI n * 9 + nI a) 81 := by rw [ej]; exact vp_in_nI (by omega) (by decide)
        have hcj : (nI n * 9 + nI a).toNatClampNeg = n * 9 + a := by rw [ej]; exact nI_clamp (by omega)
        have k := hS.2.1 n (by omega) a (by omega)
        have k3 := (hS.2.2 n (by omega) a (by omega)).1
        have a9 : a < 9 := by omega
        have tb : ∀ x : Int32, ∀ v : Nat, bt x a = decide (a < 9 ∧ sg (n * 9 + a) = v) → ((x &&& ((1 : Int32) <<< (nI a &&& 31))) = 0 ↔ sg (n * 9 + a) ≠ v) := by
          intro x v hx
          rw [qm_a0 (by omega), hx, decide_eq_false_iff_not]
          constructor
          · intro z e; exact z ⟨a9, e⟩
          · intro z e; exact z e.2
        have q1 : ¬ (qb (nI n).toNatClampNeg &&& ((1 : Int32) <<< (nI a &&& 31))) = 0 := by
          rw [hcn, qm_a0 (by omega), hqb, decide_eq_true (show a < N ∧ qm_q W n a = true from ⟨ha, c⟩)]
          decide
        refine ⟨nI (sg (n * 9 + a)), fun post hp => ?_, fun post hp => ?_⟩
        · unfold wpX_standing
          refine qm_xin_t hN hn (br_f (by decide) ?_)
          refine qm_xin_t hN ha (br_f (by decide) (nm_e (And.intro hin (br_f q1 (And.intro hin ?_)))))
          have t1 := tb (hb n) 1 k.1
          have t2 := tb (rb n) 2 k.2.1
          have t3 := tb (lb n) 3 k.2.2
          rw [← hcn] at t1 t2 t3
          by_cases s1 : sg (n * 9 + a) = 1
          · rw [s1] at hp
            exact br_f (fun z => t1.mp z (by rw [hcn]; exact s1)) hp
          · refine br_t (t1.mpr (by rw [hcn]; exact s1)) (And.intro hin ?_)
            by_cases s2 : sg (n * 9 + a) = 2
            · rw [s2] at hp
              exact br_f (fun z => t2.mp z (by rw [hcn]; exact s2)) hp
            · refine br_t (t2.mpr (by rw [hcn]; exact s2)) (And.intro hin ?_)
              by_cases s3 : sg (n * 9 + a) = 3
              · rw [s3] at hp
                exact br_f (fun z => t3.mp z (by rw [hcn]; exact s3)) hp
              · have s0 : sg (n * 9 + a) = 0 := by omega
                rw [s0] at hp
                exact br_t (t3.mpr (by rw [hcn]; exact s3)) hp
        · unfold wpY_standing
          refine qm_yin_t hN hn (br_f (by decide) ?_)
          refine qm_yin_t hN ha (br_f (by decide) ?_)
          refine qm_yinq hW1 hW3 (by omega) a9 (fun _ => br_f (by decide) (And.intro hij ?_)) (fun z => absurd c z)
          rw [hcj, hS.1]
          exact hp
      · have q1 : (qb (nI n).toNatClampNeg &&& ((1 : Int32) <<< (nI a &&& 31))) = 0 := by
          rw [hcn, qm_a0 (by omega), hqb]
          exact decide_eq_false (fun z => c z.2)
        refine ⟨-1, fun post hp => ?_, fun post hp => ?_⟩
        · unfold wpX_standing
          refine qm_xin_t hN hn (br_f (by decide) ?_)
          exact qm_xin_t hN ha (br_f (by decide) (nm_e (And.intro hin (br_t q1 hp))))
        · unfold wpY_standing
          refine qm_yin_t hN hn (br_f (by decide) ?_)
          refine qm_yin_t hN ha (br_f (by decide) ?_)
          exact qm_yinq hW1 hW3 (by omega) (by omega) (fun z => absurd z c) (fun _ => br_t rfl hp)
    · refine ⟨-1, fun post hp => ?_, fun post hp => ?_⟩
      · unfold wpX_standing
        refine qm_xin_t hN hn (br_f (by decide) ?_)
        exact qm_xin_f o2 (br_t rfl hp)
      · unfold wpY_standing
        refine qm_yin_t hN hn (br_f (by decide) ?_)
        exact qm_yin_f o2 (br_t rfl hp)
  · refine ⟨-1, fun post hp => ?_, fun post hp => ?_⟩
    · unfold wpX_standing
      exact qm_xin_f o1 (br_t rfl hp)
    · unfold wpY_standing
      exact qm_yin_f o1 (br_t rfl hp)
end
end
section
/-! rank, channelLength, flight -/
theorem qm_cnt_t {P : Nat → Bool} {i : Nat} (h : P i = true) : qm_cnt P (i + 1) = qm_cnt P i + 1 := by
  simp only [qm_cnt]
  rw [if_pos h]
theorem qm_cnt_f {P : Nat → Bool} {i : Nat} (h : ¬ P i = true) : qm_cnt P (i + 1) = qm_cnt P i := by
  simp only [qm_cnt]
  rw [if_neg h, Nat.add_zero]
section
variable {N W T : Nat} {sv cv sg w : Nat → Nat} {Q : List qm_M} {wn : Int32} {p : qm_PT} {y : qm_YT} {qb ph st ck hb rb lb en ov hk lk ll lw sd lo ls wt re : Nat → Int32}
variable {A B F L : List Nat} {s : Nat} {g : Nat → qm_M}
theorem qm_xrank1 {own : Nat} {tp : Int32} {post : Int32 → Prop} (hN : N ≤ 9) (hw : ∀ m, m < 9 → bt wn m = decide (ph m = 1)) (hst : qm_rep st sv) (hs : ∀ i, sv i ≤ 999) (ho : own < 65536) (hp : post (nI (qm_cnt (qm_wb ph sv own) N))) :
    ∀ d i : Nat, i + d = N → wX_rank_40 post (nI own) (nI N) tp wn p.1 p.2.1 p.2.2.1 p.2.2.2.1 p.2.2.2.2.1 qb ph st ck hb rb lb en ov hk lk ll lw p.2.2.2.2.2.1 p.2.2.2.2.2.2.1 p.2.2.2.2.2.2.2.1 p.2.2.2.2.2.2.2.2.1 p.2.2.2.2.2.2.2.2.2.1 p.2.2.2.2.2.2.2.2.2.2.1 p.2.2.2.2.2.2.2.2.2.2.2.1 p.2.2.2.2.2.2.2.2.2.2.2.2.1 p.2.2.2.2.2.2.2.2.2.2.2.2.2.1 p.2.2.2.2.2.2.2.2.2.2.2.2.2.2 (d + 1) (nI (qm_cnt (qm_wb ph sv own) i)) (nI i)
  | 0, i, hd => by
    have e : i = N := by omega
    subst e
    exact br_t (nI_le (Nat.le_refl _) (by omega)) hp
  | d + 1, i, hd => by
    have ih := qm_xrank1 (tp := tp) hN hw hst hs ho hp d (i + 1) (by omega)
    refine br_f (nI_ge (by omega) (by omega)) (qm_xwb (by omega) (hw i (by omega)) (hst i) (hs i) ho (fun c => ?_) (fun c => ?_))
    · rw [qm_cnt_t c] at ih
      exact br_f (by decide) (nm_r (nI_1 _) (nm_r (nI_1 _) ih))
    · rw [qm_cnt_f c] at ih
      exact br_t rfl (nm_r (nI_1 _) ih)
theorem qm_yrank1 {n : Nat} {co tp : Int32} {post : Int32 → Prop} (hN : N ≤ 9) (hn : n < 9) (hst : qm_rep st sv) (hs : ∀ i, sv i ≤ 999) (hp : post (nI (qm_cnt (qm_wb ph sv (16 * sv n + n)) N))) :
    ∀ d i : Nat, i + d = N → wY_rank_27 post (nI n) co (nI N) tp y.1 ph st ck en ov sd lo ls wt y.2.1 y.2.2.1 y.2.2.2.1 y.2.2.2.2 re (d + 1) (nI (qm_cnt (qm_wb ph sv (16 * sv n + n)) i)) (nI i)
  | 0, i, hd => by
    have e : i = N := by omega
    subst e
    exact br_t (nI_le (Nat.le_refl _) (by omega)) hp
  | d + 1, i, hd => by
    have ih := qm_yrank1 (co := co) (tp := tp) hN hn hst hs hp d (i + 1) (by omega)
    have hi : vp_in (nI i) 9 := vp_in_nI (by omega) (by decide)
    have hc : (nI i).toNatClampNeg = i := nI_clamp (by omega)
    have hin : vp_in (nI n) 9 := vp_in_nI hn (by decide)
    have hcn : (nI n).toNatClampNeg = n := nI_clamp (by omega)
    refine br_f (nI_ge (by omega) (by omega)) ?_
    by_cases e : i = n
    · have c : ¬ qm_wb ph sv (16 * sv n + n) i = true := fun z => by
        have := (of_decide_eq_true z).2
        rw [e] at this
        omega
      rw [qm_cnt_f c] at ih
      exact br_t (by rw [e]) (nm_r (nI_1 _) ih)
    · refine br_f (by rw [nI_eq (by omega) (by omega)]; exact e) (And.intro hi ?_)
      by_cases c1 : ph i = 1
      · refine br_t (by rw [hc]; exact c1) (And.intro hi (And.intro hin (qm_olderE (s := sv i) (n := i) (t := sv n) (m := n) (hs i) (hs n) (by omega) hn (by rw [hc]; exact hst i) rfl (by rw [hcn]; exact hst n) rfl (fun z => ?_) (fun z => ?_))))
        · have c : qm_wb ph sv (16 * sv n + n) i = true := decide_eq_true ⟨c1, z⟩
          rw [qm_cnt_t c] at ih
          exact br_f (by decide) (nm_r (nI_1 _) (nm_r (nI_1 _) ih))
        · have c : ¬ qm_wb ph sv (16 * sv n + n) i = true := fun x => z (of_decide_eq_true x).2
          rw [qm_cnt_f c] at ih
          exact br_t rfl (nm_r (nI_1 _) ih)
      · have c : ¬ qm_wb ph sv (16 * sv n + n) i = true := fun z => c1 (of_decide_eq_true z).1
        rw [qm_cnt_f c] at ih
        exact br_f (by rw [hc]; exact c1) (nm_r (nI_1 _) ih)
theorem qm_rank (hG : qm_G N W T qb) (hR : qm_R sv cv wn ph st ck) (v1 : Int32) : qm_B0 (fun post => wpX_rank post (nI N, nI T, wn, p.1, p.2.1, p.2.2.1, p.2.2.2.1, p.2.2.2.2.1, qb, ph, st, ck, hb, rb, lb, en, ov, hk, lk, ll, lw, p.2.2.2.2.2.1, p.2.2.2.2.2.2.1, p.2.2.2.2.2.2.2.1, p.2.2.2.2.2.2.2.2.1, p.2.2.2.2.2.2.2.2.2.1, p.2.2.2.2.2.2.2.2.2.2.1, p.2.2.2.2.2.2.2.2.2.2.2.1, p.2.2.2.2.2.2.2.2.2.2.2.2.1, p.2.2.2.2.2.2.2.2.2.2.2.2.2.1, p.2.2.2.2.2.2.2.2.2.2.2.2.2.2) v1) (fun post => wpY_rank post (nI W, nI N, nI T, y.1, ph, st, ck, en, ov, sd, lo, ls, wt, y.2.1, y.2.2.1, y.2.2.2.1, y.2.2.2.2, re) v1) := by
  have hN := hG.2.2.1
  obtain ⟨r1, r2, r3, r4, r5, r6⟩ := id hR
  rcases qm_rng N hN v1 with ⟨n, hn, e1⟩ | o1
  · subst e1
    have hin : vp_in (nI n) 9 := vp_in_nI (by omega) (by decide)
    have hcn : (nI n).toNatClampNeg = n := nI_clamp (by omega)
    have h9 := r2 n
    by_cases c1 : ph n = 1
    · refine ⟨nI (qm_cnt (qm_wb ph sv (16 * sv n + n)) N), fun post hp => ?_, fun post hp => ?_⟩
      · unfold wpX_rank
        refine qm_xin_t hN hn (br_f (by decide) (And.intro hin (br_t (by rw [hcn]; exact c1) (And.intro hin (qm_xkey (s := sv n) (n := n) (r2 n) (by omega) (by rw [hcn]; exact r1 n) rfl ?_)))))
        exact ⟨_, qm_xrank1 hN r6 r1 r2 (by omega) hp N 0 (by omega)⟩
      · unfold wpY_rank
        refine qm_yin_t hN hn (br_f (by decide) (And.intro hin (br_t (by rw [hcn]; exact c1) ?_)))
        exact ⟨_, qm_yrank1 hN (by omega) r1 r2 hp N 0 (by omega)⟩
    · refine ⟨-2, fun post hp => ?_, fun post hp => ?_⟩
      · unfold wpX_rank
        exact qm_xin_t hN hn (br_f (by decide) (And.intro hin (br_f (by rw [hcn]; exact c1) hp)))
      · unfold wpY_rank
        exact qm_yin_t hN hn (br_f (by decide) (And.intro hin (br_f (by rw [hcn]; exact c1) hp)))
  · refine ⟨-1, fun post hp => ?_, fun post hp => ?_⟩
    · unfold wpX_rank
      exact qm_xin_f o1 (br_t rfl hp)
    · unfold wpY_rank
      exact qm_yin_f o1 (br_t rfl hp)
/-- the messages of a channel -/
def qm_cf (c : Nat) (Q : List qm_M) : List qm_M := Q.filter (fun m => qm_mc m == c)
theorem qm_cf_fl {c : Nat} : (qm_cf c (L.map g)).length = (qm_fl g c L).length := by
  unfold qm_cf qm_fl
  rw [List.filter_map, List.length_map]
  rfl
theorem qm_cl1 {f t : Nat} {co nn tp : Int32} {post : Int32 → Prop} (hf : f < 9) (ht : t < 9) (hY : qm_PY Q y) (hV : qm_V9 Q) (hp : post (nI (qm_cf (f * 9 + t) Q).length)) :
    ∀ (B A : List qm_M), Q = A ++ B → wY_channelLength_23 post (nI f) (nI t) co nn tp y.1 ph st ck en ov sd lo ls wt y.2.1 y.2.2.1 y.2.2.2.1 y.2.2.2.2 re (B.length + 1) (nI (qm_cf (f * 9 + t) A).length) (nI A.length)
  | [], A, eq => by
    have hz : Q = A := by rw [eq, List.append_nil]
    have hl := hY.1
    refine br_t ?_ (by rw [← hz]; exact hp)
    rw [hY.2.1, hz]
    exact nI_le (Nat.le_refl _) (by rw [← hz]; omega)
  | m :: B, A, eq => by
    have ih := qm_cl1 (co := co) (nn := nn) (tp := tp) hf ht hY hV hp B (A ++ [m]) (by rw [eq]; simp)
    have hl := hY.1
    have hlen : A.length < Q.length := by rw [eq]; simp
    have hi : vp_in (nI A.length) 200 := vp_in_nI (by omega) (by decide)
    have hc : (nI A.length).toNatClampNeg = A.length := nI_clamp (by omega)
    have hn : ¬ y.1 ≤ nI A.length := by rw [hY.2.1]; exact nI_ge hlen (by omega)
    have at_ := hY.2.2 A.length m (by rw [eq]; exact qm_get A m B)
    have v9 := hV m (by rw [eq]; simp)
    have s1 : y.2.2.1 (nI A.length).toNatClampNeg = nI m.2.1 := by rw [hc]; exact at_.2.1
    have s2 : y.2.2.2.1 (nI A.length).toNatClampNeg = nI m.2.2.1 := by rw [hc]; exact at_.2.2.1
    have el : (A ++ [m]).length = A.length + 1 := by simp
    rw [el] at ih
    by_cases hm : qm_mc m = f * 9 + t
    · have k := qm_mc_inj v9.2 ht hm
      have ec : (qm_cf (f * 9 + t) (A ++ [m])).length = (qm_cf (f * 9 + t) A).length + 1 := by
        unfold qm_cf
        rw [List.filter_append, List.length_append]
        simp [hm]
      rw [ec] at ih
      exact br_f hn (And.intro hi (br_t (by rw [s1, k.1]) (And.intro hi (br_t (by rw [s2, k.2]) (nm_r (nI_1 _) (nm_r (nI_1 _) ih))))))
    · have ec : (qm_cf (f * 9 + t) (A ++ [m])).length = (qm_cf (f * 9 + t) A).length := by
        unfold qm_cf
        rw [List.filter_append, List.length_append]
        simp [hm]
      rw [ec] at ih
      by_cases h1 : m.2.1 = f
      · have h2 : m.2.2.1 ≠ t := fun h => hm (by unfold qm_mc; rw [h1, h])
        refine br_f hn (And.intro hi (br_t (by rw [s1, h1]) (And.intro hi (br_f ?_ (nm_r (nI_1 _) ih)))))
        rw [s2, nI_eq (by omega) (by omega)]
        exact h2
      · refine br_f hn (And.intro hi (br_f ?_ (nm_r (nI_1 _) ih)))
        rw [s1, nI_eq (by omega) (by omega)]
        exact h1
theorem qm_channelLength (hG : qm_G N W T qb) (hP : qm_P N W Q p y) (v1 v2 : Int32) : qm_B0 (fun post => wpX_channelLength post (nI N, nI T, wn, p.1, p.2.1, p.2.2.1, p.2.2.2.1, p.2.2.2.2.1, qb, ph, st, ck, hb, rb, lb, en, ov, hk, lk, ll, lw, p.2.2.2.2.2.1, p.2.2.2.2.2.2.1, p.2.2.2.2.2.2.2.1, p.2.2.2.2.2.2.2.2.1, p.2.2.2.2.2.2.2.2.2.1, p.2.2.2.2.2.2.2.2.2.2.1, p.2.2.2.2.2.2.2.2.2.2.2.1, p.2.2.2.2.2.2.2.2.2.2.2.2.1, p.2.2.2.2.2.2.2.2.2.2.2.2.2.1, p.2.2.2.2.2.2.2.2.2.2.2.2.2.2) v1 v2) (fun post => wpY_channelLength post (nI W, nI N, nI T, y.1, ph, st, ck, en, ov, sd, lo, ls, wt, y.2.1, y.2.2.1, y.2.2.2.1, y.2.2.2.2, re) v1 v2) := by
  have hN := hG.2.2.1
  obtain ⟨⟨L, F, g, hL, eQ⟩, hY, hO⟩ := hP
  rcases qm_rng N hN v1 with ⟨f, hf, e1⟩ | o1
  · subst e1
    rcases qm_rng N hN v2 with ⟨t, ht, e2⟩ | o2
    · subst e2
      have ec : nI f * 9 + nI t = nI (f * 9 + t) := qm_idx
      have hic : vp_in (nI f * 9 + nI t) 81 := by rw [ec]; exact vp_in_nI (by omega) (by decide)
      have hcc : (nI f * 9 + nI t).toNatClampNeg = f * 9 + t := by rw [ec]; exact nI_clamp (by omega)
      have hch := (hL.2.2.2.2.2.2.2.2.1 (f * 9 + t) (by omega)).2.2.2
      refine ⟨nI (qm_cf (f * 9 + t) Q).length, fun post hp => ?_, fun post hp => ?_⟩
      · unfold wpX_channelLength
        refine qm_xin_t hN hf (br_f (by decide) ?_)
        refine qm_xin_t hN ht (br_f (by decide) (And.intro hic ?_))
        rw [hcc, hch, ← qm_cf_fl, ← eQ]
        exact hp
      · unfold wpY_channelLength
        refine qm_yin_t hN hf (br_f (by decide) ?_)
        refine qm_yin_t hN ht (br_f (by decide) ?_)
        exact ⟨_, qm_cl1 (show f < 9 by omega) (show t < 9 by omega) hY (qm_V9_of hN hO) hp Q [] rfl⟩
    · refine ⟨-1, fun post hp => ?_, fun post hp => ?_⟩
      · unfold wpX_channelLength
        refine qm_xin_t hN hf (br_f (by decide) ?_)
        exact qm_xin_f o2 (br_t rfl hp)
      · unfold wpY_channelLength
        refine qm_yin_t hN hf (br_f (by decide) ?_)
        exact qm_yin_f o2 (br_t rfl hp)
  · refine ⟨-1, fun post hp => ?_, fun post hp => ?_⟩
    · unfold wpX_channelLength
      exact qm_xin_f o1 (br_t rfl hp)
    · unfold wpY_channelLength
      exact qm_yin_f o1 (br_t rfl hp)
theorem qm_at22 {nn tp : Int32} {idx : Nat} {post : Int32 → Prop} (hL : qm_PL (L) F g p.1 p.2.1 p.2.2.1 p.2.2.2.1 p.2.2.2.2.1 p.2.2.2.2.2.1 p.2.2.2.2.2.2.1 p.2.2.2.2.2.2.2.1 p.2.2.2.2.2.2.2.2.1 p.2.2.2.2.2.2.2.2.2.1 p.2.2.2.2.2.2.2.2.2.2.1 p.2.2.2.2.2.2.2.2.2.2.2.1 p.2.2.2.2.2.2.2.2.2.2.2.2.1 p.2.2.2.2.2.2.2.2.2.2.2.2.2.1 p.2.2.2.2.2.2.2.2.2.2.2.2.2.2) (hi : idx ≤ 200) (hp : ∀ s, L[idx]? = some s → post (nI s)) :
    ∀ (d : Nat) (A B : List Nat), L = A ++ B → A.length + d = idx → idx < L.length → wX_slotAt_22 post (nI idx) nn tp wn p.1 p.2.1 p.2.2.1 p.2.2.2.1 p.2.2.2.2.1 qb ph st ck hb rb lb en ov hk lk ll lw p.2.2.2.2.2.1 p.2.2.2.2.2.2.1 p.2.2.2.2.2.2.2.1 p.2.2.2.2.2.2.2.2.1 p.2.2.2.2.2.2.2.2.2.1 p.2.2.2.2.2.2.2.2.2.2.1 p.2.2.2.2.2.2.2.2.2.2.2.1 p.2.2.2.2.2.2.2.2.2.2.2.2.1 p.2.2.2.2.2.2.2.2.2.2.2.2.2.1 p.2.2.2.2.2.2.2.2.2.2.2.2.2.2 (d + 1) (qm_hd B) (nI A.length)
  | 0, A, B, e, hd, hlt => by
    have ei : A.length = idx := by omega
    cases B with
    | nil => rw [e] at hlt; simp at hlt; omega
    | cons s B =>
      refine br_t (nI_le (by omega) (by omega)) (hp s ?_)
      rw [e, ← ei]
      simp
  | d + 1, A, B, e, hd, hlt => by
    cases B with
    | nil => rw [e] at hlt; simp at hlt; omega
    | cons s B =>
      have ih := qm_at22 (nn := nn) (tp := tp) hL hi hp d (A ++ [s]) B (by rw [e]; simp) (by simp; omega) hlt
      have hL' := hL
      rw [e] at hL'
      have hs : s < 200 := hL'.2.1 s (by simp)
      have his : vp_in (nI s) 200 := vp_in_nI hs (by decide)
      have hcs : (nI s).toNatClampNeg = s := nI_clamp (by omega)
      have nv : p.2.2.2.2.2.2.2.2.2.1 (nI s).toNatClampNeg = qm_hd B := by
        rw [hcs]
        exact qm_ch_at hL'.2.2.2.2.2.2.1.2.2.1
      rw [List.length_append] at ih
      exact br_f (nI_ge (by omega) (by omega)) (br_f (nI_pos (n := s) (by omega)) (And.intro his (nm_r nv (nm_r (nI_1 _) ih))))
theorem qm_at56 {nn tp : Int32} {idx : Nat} {post : Int32 → Prop} (hL : qm_PL (L) F g p.1 p.2.1 p.2.2.1 p.2.2.2.1 p.2.2.2.2.1 p.2.2.2.2.2.1 p.2.2.2.2.2.2.1 p.2.2.2.2.2.2.2.1 p.2.2.2.2.2.2.2.2.1 p.2.2.2.2.2.2.2.2.2.1 p.2.2.2.2.2.2.2.2.2.2.1 p.2.2.2.2.2.2.2.2.2.2.2.1 p.2.2.2.2.2.2.2.2.2.2.2.2.1 p.2.2.2.2.2.2.2.2.2.2.2.2.2.1 p.2.2.2.2.2.2.2.2.2.2.2.2.2.2) (hi : idx ≤ 200) (hp : ∀ s, L.reverse[idx]? = some s → post (nI s)) :
    ∀ (d : Nat) (A B : List Nat), L.reverse = A ++ B → A.length + d = idx → idx < L.length → wX_slotAt_56 post (nI idx) nn tp wn p.1 p.2.1 p.2.2.1 p.2.2.2.1 p.2.2.2.2.1 qb ph st ck hb rb lb en ov hk lk ll lw p.2.2.2.2.2.1 p.2.2.2.2.2.2.1 p.2.2.2.2.2.2.2.1 p.2.2.2.2.2.2.2.2.1 p.2.2.2.2.2.2.2.2.2.1 p.2.2.2.2.2.2.2.2.2.2.1 p.2.2.2.2.2.2.2.2.2.2.2.1 p.2.2.2.2.2.2.2.2.2.2.2.2.1 p.2.2.2.2.2.2.2.2.2.2.2.2.2.1 p.2.2.2.2.2.2.2.2.2.2.2.2.2.2 (d + 1) (qm_hd B) (nI A.length)
  | 0, A, B, e, hd, hlt => by
    have ei : A.length = idx := by omega
    have hlr : L.length = A.length + B.length := by rw [← List.length_reverse, e, List.length_append]
    cases B with
    | nil => simp at hlr; omega
    | cons s B =>
      refine br_t (nI_le (by omega) (by omega)) (hp s ?_)
      rw [e, ← ei]
      simp
  | d + 1, A, B, e, hd, hlt => by
    have hlr : L.length = A.length + B.length := by rw [← List.length_reverse, e, List.length_append]
    cases B with
    | nil => simp at hlr; omega
    | cons s B =>
      have ih := qm_at56 (nn := nn) (tp := tp) hL hi hp d (A ++ [s]) B (by rw [e]; simp) (by simp; omega) hlt
      have hsm : s ∈ L := by
        have : s ∈ L.reverse := by rw [e]; simp
        simpa using this
      have hs : s < 200 := hL.2.1 s (by simp [hsm])
      have his : vp_in (nI s) 200 := vp_in_nI hs (by decide)
      have hcs : (nI s).toNatClampNeg = s := nI_clamp (by omega)
      have nv : p.2.2.2.2.2.2.2.2.2.2.1 (nI s).toNatClampNeg = qm_hd B := by
        rw [hcs]
        have c2 := hL.2.2.2.2.2.2.1.2.2.2
        rw [e] at c2
        exact qm_ch_at c2
      rw [List.length_append] at ih
      exact br_f (nI_ge (by omega) (by omega)) (br_f (nI_pos (n := s) (by omega)) (And.intro his (nm_r nv (nm_r (nI_1 _) ih))))
theorem qm_slotAt {nn tp : Int32} {idx s : Nat} {post : Int32 → Prop} (hL : qm_PL (L) F g p.1 p.2.1 p.2.2.1 p.2.2.2.1 p.2.2.2.2.1 p.2.2.2.2.2.1 p.2.2.2.2.2.2.1 p.2.2.2.2.2.2.2.1 p.2.2.2.2.2.2.2.2.1 p.2.2.2.2.2.2.2.2.2.1 p.2.2.2.2.2.2.2.2.2.2.1 p.2.2.2.2.2.2.2.2.2.2.2.1 p.2.2.2.2.2.2.2.2.2.2.2.2.1 p.2.2.2.2.2.2.2.2.2.2.2.2.2.1 p.2.2.2.2.2.2.2.2.2.2.2.2.2.2) (hs : L[idx]? = some s) (hp : post (nI s)) : wpX_slotAt post (nn, tp, wn, p.1, p.2.1, p.2.2.1, p.2.2.2.1, p.2.2.2.2.1, qb, ph, st, ck, hb, rb, lb, en, ov, hk, lk, ll, lw, p.2.2.2.2.2.1, p.2.2.2.2.2.2.1, p.2.2.2.2.2.2.2.1, p.2.2.2.2.2.2.2.2.1, p.2.2.2.2.2.2.2.2.2.1, p.2.2.2.2.2.2.2.2.2.2.1, p.2.2.2.2.2.2.2.2.2.2.2.1, p.2.2.2.2.2.2.2.2.2.2.2.2.1, p.2.2.2.2.2.2.2.2.2.2.2.2.2.1, p.2.2.2.2.2.2.2.2.2.2.2.2.2.2) (nI idx) := by
  have hlt : idx < L.length := by
    rcases Nat.lt_or_ge idx L.length with z | z
    · exact z
    · rw [List.getElem?_eq_none z] at hs; exact absurd hs (by simp)
  have hl2 : L.length + F.length = 200 := hL.2.2.1
  have e1 : p.2.2.2.1 - 1 - nI idx = nI (L.length - 1 - idx) := by
    rw [hL.2.2.2.2.1]
    show nI L.length - nI 1 - nI idx = _
    rw [pk_sub (by omega), pk_sub (by omega)]
  refine nm_r e1 ?_
  by_cases c : L.length - 1 - idx < idx
  · refine br_t (nI_lt c (by omega)) ⟨L.length - 1 - idx + 1, ?_⟩
    have hrev : L.reverse[L.length - 1 - idx]? = some s := by
      rw [List.getElem?_reverse (by omega), show L.length - 1 - (L.length - 1 - idx) = idx from by omega]
      exact hs
    have w := qm_at56 (nn := nn) (tp := tp) (wn := wn) (qb := qb) (ph := ph) (st := st) (ck := ck) (hb := hb) (rb := rb) (lb := lb) (en := en) (ov := ov) (hk := hk) (lk := lk) (ll := ll) (lw := lw) (post := post) hL (idx := L.length - 1 - idx) (by omega) (fun s' hs' => by
      rw [hrev] at hs'
      have : s = s' := by simpa using hs'
      rw [← this]; exact hp) (L.length - 1 - idx) [] L.reverse rfl (by simp) (by omega)
    exact qm_at (P := fun x => wX_slotAt_56 post (nI (L.length - 1 - idx)) nn tp wn p.1 p.2.1 p.2.2.1 p.2.2.2.1 p.2.2.2.2.1 qb ph st ck hb rb lb en ov hk lk ll lw p.2.2.2.2.2.1 p.2.2.2.2.2.2.1 p.2.2.2.2.2.2.2.1 p.2.2.2.2.2.2.2.2.1 p.2.2.2.2.2.2.2.2.2.1 p.2.2.2.2.2.2.2.2.2.2.1 p.2.2.2.2.2.2.2.2.2.2.2.1 p.2.2.2.2.2.2.2.2.2.2.2.2.1 p.2.2.2.2.2.2.2.2.2.2.2.2.2.1 p.2.2.2.2.2.2.2.2.2.2.2.2.2.2 (L.length - 1 - idx + 1) x 0) hL.2.2.2.2.2.2.1.2.1 w
  · refine br_f (nI_nlt (by omega) (by omega)) ⟨idx + 1, ?_⟩
    have w := qm_at22 (nn := nn) (tp := tp) (wn := wn) (qb := qb) (ph := ph) (st := st) (ck := ck) (hb := hb) (rb := rb) (lb := lb) (en := en) (ov := ov) (hk := hk) (lk := lk) (ll := ll) (lw := lw) (post := post) hL (idx := idx) (by omega) (fun s' hs' => by
      rw [hs] at hs'
      have : s = s' := by simpa using hs'
      rw [← this]; exact hp) idx [] L rfl (by simp) hlt
    exact qm_at (P := fun x => wX_slotAt_22 post (nI idx) nn tp wn p.1 p.2.1 p.2.2.1 p.2.2.2.1 p.2.2.2.2.1 qb ph st ck hb rb lb en ov hk lk ll lw p.2.2.2.2.2.1 p.2.2.2.2.2.2.1 p.2.2.2.2.2.2.2.1 p.2.2.2.2.2.2.2.2.1 p.2.2.2.2.2.2.2.2.2.1 p.2.2.2.2.2.2.2.2.2.2.1 p.2.2.2.2.2.2.2.2.2.2.2.1 p.2.2.2.2.2.2.2.2.2.2.2.2.1 p.2.2.2.2.2.2.2.2.2.2.2.2.2.1 p.2.2.2.2.2.2.2.2.2.2.2.2.2.2 (idx + 1) x 0) hL.2.2.2.2.2.2.1.1 w
theorem qm_flight (hP : qm_P N W Q p y) (v1 v2 : Int32) : qm_B0 (fun post => wpX_flight post (nI N, nI T, wn, p.1, p.2.1, p.2.2.1, p.2.2.2.1, p.2.2.2.2.1, qb, ph, st, ck, hb, rb, lb, en, ov, hk, lk, ll, lw, p.2.2.2.2.2.1, p.2.2.2.2.2.2.1, p.2.2.2.2.2.2.2.1, p.2.2.2.2.2.2.2.2.1, p.2.2.2.2.2.2.2.2.2.1, p.2.2.2.2.2.2.2.2.2.2.1, p.2.2.2.2.2.2.2.2.2.2.2.1, p.2.2.2.2.2.2.2.2.2.2.2.2.1, p.2.2.2.2.2.2.2.2.2.2.2.2.2.1, p.2.2.2.2.2.2.2.2.2.2.2.2.2.2) v1 v2) (fun post => wpY_flight post (nI W, nI N, nI T, y.1, ph, st, ck, en, ov, sd, lo, ls, wt, y.2.1, y.2.2.1, y.2.2.2.1, y.2.2.2.2, re) v1 v2) := by
  obtain ⟨⟨L, F, g, hL, eQ⟩, hY, hO⟩ := hP
  have hx1 : p.2.2.2.1 = nI L.length := hL.2.2.2.2.1
  have hy1 : y.1 = nI L.length := by rw [hY.2.1, eQ, List.length_map]
  have hl2 : L.length + F.length = 200 := hL.2.2.1
  by_cases c1 : v2 < 0
  · exact ⟨-1, fun post hp => br_t c1 hp, fun post hp => br_t c1 hp⟩
  by_cases c2 : v2 ≤ 3
  · by_cases c3 : v1 < 0
    · exact ⟨-4, fun post hp => br_f c1 (br_t c2 (br_t c3 hp)), fun post hp => br_f c1 (br_t c2 (br_t c3 hp))⟩
    · obtain ⟨i, hi, e⟩ := nI_of c3
      subst e
      by_cases c4 : i < L.length
      · have l1 : nI i < p.2.2.2.1 := by rw [hx1]; exact nI_lt c4 (by omega)
        have l2 : nI i < y.1 := by rw [hy1]; exact nI_lt c4 (by omega)
        obtain ⟨s, hs⟩ : ∃ s, L[i]? = some s := ⟨_, List.getElem?_eq_getElem c4⟩
        have hsm : s ∈ L := List.mem_of_getElem? hs
        have hs2 : s < 200 := hL.2.1 s (by simp [hsm])
        have his : vp_in (nI s) 200 := vp_in_nI hs2 (by decide)
        have hcs : (nI s).toNatClampNeg = s := nI_clamp (by omega)
        have hii : vp_in (nI i) 200 := vp_in_nI (by omega) (by decide)
        have hci : (nI i).toNatClampNeg = i := nI_clamp (by omega)
        have hat := hL.2.2.2.2.2.2.2.1 s hsm
        have at_ := hY.2.2 i (g s) (by rw [eQ, List.getElem?_map, hs]; rfl)
        have sp : (0 : Int32) ≤ nI s := nI_pos' (by omega)
        by_cases f0 : v2 = 0
        · refine ⟨nI (g s).1, fun post hp => br_f c1 (br_t c2 (br_f c3 (br_t l1 (qm_slotAt hL hs (br_t sp (br_t f0 (And.intro his ?_))))))), fun post hp => br_f c1 (br_t c2 (br_f c3 (br_t l2 (br_t f0 (And.intro hii ?_)))))⟩
          · rw [hcs, hat.1]; exact hp
          · rw [hci, at_.1]; exact hp
        by_cases f1 : v2 = 1
        · refine ⟨nI (g s).2.1, fun post hp => br_f c1 (br_t c2 (br_f c3 (br_t l1 (qm_slotAt hL hs (br_t sp (br_f f0 (br_t f1 (And.intro his ?_)))))))), fun post hp => br_f c1 (br_t c2 (br_f c3 (br_t l2 (br_f f0 (br_t f1 (And.intro hii ?_))))))⟩
          · rw [hcs, hat.2.1]; exact hp
          · rw [hci, at_.2.1]; exact hp
        by_cases f2 : v2 = 2
        · refine ⟨nI (g s).2.2.1, fun post hp => br_f c1 (br_t c2 (br_f c3 (br_t l1 (qm_slotAt hL hs (br_t sp (br_f f0 (br_f f1 (br_t f2 (And.intro his ?_))))))))), fun post hp => br_f c1 (br_t c2 (br_f c3 (br_t l2 (br_f f0 (br_f f1 (br_t f2 (And.intro hii ?_)))))))⟩
          · rw [hcs, hat.2.2.1]; exact hp
          · rw [hci, at_.2.2.1]; exact hp
        · refine ⟨nI (g s).2.2.2, fun post hp => br_f c1 (br_t c2 (br_f c3 (br_t l1 (qm_slotAt hL hs (br_t sp (br_f f0 (br_f f1 (br_f f2 (And.intro his ?_))))))))), fun post hp => br_f c1 (br_t c2 (br_f c3 (br_t l2 (br_f f0 (br_f f1 (br_f f2 (And.intro hii ?_)))))))⟩
          · rw [hcs, hat.2.2.2.1]; exact hp
          · rw [hci, at_.2.2.2]; exact hp
      · have l1 : ¬ nI i < p.2.2.2.1 := by rw [hx1]; exact nI_nlt (by omega) hi
        have l2 : ¬ nI i < y.1 := by rw [hy1]; exact nI_nlt (by omega) hi
        exact ⟨-4, fun post hp => br_f c1 (br_t c2 (br_f c3 (br_f l1 hp))), fun post hp => br_f c1 (br_t c2 (br_f c3 (br_f l2 hp)))⟩
  · exact ⟨-1, fun post hp => br_f c1 (br_f c2 hp), fun post hp => br_f c1 (br_f c2 hp)⟩
end
end
section
/-! queueAt -/
theorem qm_cnt_len {f : Nat → Nat} {P : Nat → Bool} : ∀ {N : Nat} {A : List Nat}, A.Nodup → (∀ x, x ∈ A ↔ ∃ m, m < N ∧ P m = true ∧ x = f m) → (∀ m m', m < N → m' < N → f m = f m' → m = m') → A.length = qm_cnt P N
  | 0, A, nd, h, hf => by
    have : A = [] := List.eq_nil_iff_forall_not_mem.mpr (fun x hx => by
      obtain ⟨m, hm, _⟩ := (h x).mp hx
      omega)
    rw [this]; rfl
  | N + 1, A, nd, h, hf => by
    by_cases c : P N = true
    · have hm : f N ∈ A := (h (f N)).mpr ⟨N, by omega, c, rfl⟩
      have hlen := List.length_erase_of_mem hm
      have hpos : 0 < A.length := List.length_pos_of_mem hm
      have ih := qm_cnt_len (N := N) (A := A.erase (f N)) (nd.erase _) (fun x => by
        rw [nd.mem_erase_iff, h x]
        constructor
        · rintro ⟨hne, m, hm, hp, e⟩
          refine ⟨m, ?_, hp, e⟩
          rcases Nat.lt_or_ge m N with z | z
          · exact z
          · have : m = N := by omega
            rw [this] at e
            exact absurd e hne
        · rintro ⟨m, hm, hp, e⟩
          refine ⟨fun z => ?_, m, by omega, hp, e⟩
          have := hf m N (by omega) (by omega) (e.symm.trans z)
          omega) (fun m m' h1 h2 => hf m m' (by omega) (by omega))
      rw [qm_cnt_t c]
      omega
    · rw [qm_cnt_f c]
      refine qm_cnt_len nd (fun x => ?_) (fun m m' h1 h2 => hf m m' (by omega) (by omega))
      rw [h x]
      constructor
      · rintro ⟨m, hm, hp, e⟩
        refine ⟨m, ?_, hp, e⟩
        rcases Nat.lt_or_ge m N with z | z
        · exact z
        · have : m = N := by omega
          rw [this] at hp
          exact absurd hp c
      · rintro ⟨m, hm, hp, e⟩
        exact ⟨m, by omega, hp, e⟩
def qm_bf (w : Nat → Nat) (a k : Nat) : Nat → Bool := fun m => decide (1 ≤ w (a * 9 + m) ∧ 16 * w (a * 9 + m) + m < k)
theorem qm_bf_len {w : Nat → Nat} {a k N : Nat} {A B : List Nat} (h : qm_ln w a (A ++ k :: B)) (hN : N ≤ 9) (hs : ∀ n, n < 9 → w (a * 9 + n) ≠ 0 → n < N) : A.length = qm_cnt (qm_bf w a k) N := by
  have pw := List.pairwise_append.mp h.1
  have ndA : A.Nodup := pw.1.imp (fun hlt => by omega)
  refine qm_cnt_len (f := fun m => 16 * w (a * 9 + m) + m) ndA (fun x => ?_) (fun m m' h1 h2 e => by
    have e' : 16 * w (a * 9 + m) + m = 16 * w (a * 9 + m') + m' := e
    omega)
  constructor
  · intro hx
    have hlt : x < k := pw.2.2 x hx k (by simp)
    have hm := (h.2 x).mp (List.mem_append_left _ hx)
    have hN' := hs (x % 16) hm.1 (by omega)
    exact ⟨x % 16, hN', decide_eq_true ⟨by omega, by omega⟩, by show x = 16 * w (a * 9 + x % 16) + x % 16; omega⟩
  · rintro ⟨m, hm, hp, e⟩
    have e : x = 16 * w (a * 9 + m) + m := e
    have hp' := of_decide_eq_true hp
    have hmem : x ∈ A ++ k :: B := (h.2 x).mpr (by
      have e1 : x % 16 = m := by omega
      rw [e1]
      exact ⟨by omega, by omega, by omega⟩)
    rcases List.mem_append.mp hmem with z | z
    · exact z
    · rcases List.mem_cons.mp z with z | z
      · omega
      · have := (List.pairwise_cons.mp pw.2.1).1 x z
        omega
section
variable {N W T : Nat} {sv cv sg w : Nat → Nat} {Q : List qm_M} {wn : Int32} {p : qm_PT} {y : qm_YT} {qb ph st ck hb rb lb en ov hk lk ll lw sd lo ls wt re : Nat → Int32}
variable {a n : Nat} {x2 co tp : Int32} {post : Int32 → Prop}
theorem qm_q39 {J : Int32 → Prop} (hN : N ≤ 9) (ha : a < 9) (hn : n < 9) (hr : qm_rep wt w) (hw : ∀ j, w j ≤ 999)
    (hm : 1 ≤ w (a * 9 + n) → nI (qm_cnt (qm_bf w a (16 * w (a * 9 + n) + n)) N) = x2 → post (nI n)) (hj : ¬ (1 ≤ w (a * 9 + n) ∧ nI (qm_cnt (qm_bf w a (16 * w (a * 9 + n) + n)) N) = x2) → J (nI (n + 1))) :
    ∀ d i : Nat, i + d = N → wY_queueAt_39 post J (nI a) x2 (nI n) (nI (w (a * 9 + n))) co (nI N) tp y.1 ph st ck en ov sd lo ls wt y.2.1 y.2.2.1 y.2.2.2.1 y.2.2.2.2 re (d + 1) (nI (qm_cnt (qm_bf w a (16 * w (a * 9 + n) + n)) i)) (nI i)
  | 0, i, hd => by
    have e : i = N := by omega
    subst e
    have wn9 := hw (a * 9 + n)
    refine br_t (nI_le (Nat.le_refl _) (by omega)) ?_
    by_cases c : 1 ≤ w (a * 9 + n)
    · refine br_f (nI_nle c (by omega)) ?_
      by_cases c2 : nI (qm_cnt (qm_bf w a (16 * w (a * 9 + n) + n)) i) = x2
      · exact br_t c2 (hm c c2)
      · exact br_f c2 (nm_r (nI_1 _) (hj (fun z => c2 z.2)))
    · have z : w (a * 9 + n) = 0 := by omega
      exact br_t (by rw [z]; decide) (nm_r (nI_1 _) (hj (fun z => c z.1)))
  | d + 1, i, hd => by
    have ih := qm_q39 hN ha hn hr hw hm hj d (i + 1) (by omega)
    have ei : nI a * 9 + nI i = nI (a * 9 + i) := qm_idx
    have hi : vp_in (nI a * 9 + nI i) 81 := by rw [ei]; exact vp_in_nI (by omega) (by decide)
    have rd : wt (nI a * 9 + nI i).toNatClampNeg = nI (w (a * 9 + i)) := by rw [ei, nI_clamp (by omega)]; exact hr _
    have w1 := hw (a * 9 + i)
    have w2 := hw (a * 9 + n)
    refine br_f (nI_ge (by omega) (by omega)) (And.intro hi (nm_r rd ?_))
    by_cases c : w (a * 9 + i) = 0
    · have cb : ¬ qm_bf w a (16 * w (a * 9 + n) + n) i = true := fun z => by
        have := (of_decide_eq_true z).1
        omega
      rw [qm_cnt_f cb] at ih
      exact br_t (by rw [c]; decide) (nm_r (nI_1 _) ih)
    · refine br_f (nI_nle (by omega) (by omega)) (qm_older (by omega) (by omega) (by omega) (by omega) (fun z => ?_) (fun z => ?_))
      · have cb : qm_bf w a (16 * w (a * 9 + n) + n) i = true := decide_eq_true ⟨by omega, z⟩
        rw [qm_cnt_t cb] at ih
        exact br_f (by decide) (nm_r (nI_1 _) (nm_r (nI_1 _) ih))
      · have cb : ¬ qm_bf w a (16 * w (a * 9 + n) + n) i = true := fun x => z (of_decide_eq_true x).2
        rw [qm_cnt_f cb] at ih
        exact br_t rfl (nm_r (nI_1 _) ih)
theorem qm_q12 (hN : N ≤ 9) (ha : a < 9) (hr : qm_rep wt w) (hw : ∀ j, w j ≤ 999)
    (hm : ∀ n, n < N → 1 ≤ w (a * 9 + n) → nI (qm_cnt (qm_bf w a (16 * w (a * 9 + n) + n)) N) = x2 → post (nI n)) (hz : (∀ n, n < N → ¬ (1 ≤ w (a * 9 + n) ∧ nI (qm_cnt (qm_bf w a (16 * w (a * 9 + n) + n)) N) = x2)) → post (-4)) :
    ∀ d i : Nat, i + d = N → (∀ n, n < i → ¬ (1 ≤ w (a * 9 + n) ∧ nI (qm_cnt (qm_bf w a (16 * w (a * 9 + n) + n)) N) = x2)) → wY_queueAt_12 post (nI a) x2 co (nI N) tp y.1 ph st ck en ov sd lo ls wt y.2.1 y.2.2.1 y.2.2.2.1 y.2.2.2.2 re (d + 1) (nI i)
  | 0, i, hd, hb => by
    have e : i = N := by omega
    subst e
    exact br_t (nI_le (Nat.le_refl _) (by omega)) (hz hb)
  | d + 1, i, hd, hb => by
    have ei : nI a * 9 + nI i = nI (a * 9 + i) := qm_idx
    have hi : vp_in (nI a * 9 + nI i) 81 := by rw [ei]; exact vp_in_nI (by omega) (by decide)
    have rd : wt (nI a * 9 + nI i).toNatClampNeg = nI (w (a * 9 + i)) := by rw [ei, nI_clamp (by omega)]; exact hr _
    refine br_f (nI_ge (by omega) (by omega)) (And.intro hi (nm_r rd ⟨N + 1, ?_⟩))
    refine qm_q39 (n := i) hN ha (by omega) hr hw (hm i (by omega)) (fun z => ?_) N 0 (by omega)
    refine qm_q12 hN ha hr hw hm hz d (i + 1) (by omega) (fun n hn => ?_)
    by_cases e : n = i
    · rw [e]; exact z
    · exact hb n (by omega)
end
section
variable {N W T : Nat} {sv cv sg w : Nat → Nat} {Q : List qm_M} {wn : Int32} {p : qm_PT} {y : qm_YT} {qb ph st ck hb rb lb en ov hk lk ll lw sd lo ls wt re : Nat → Int32}
theorem qm_queueAt (hG : qm_G N W T qb) (hW : qm_Wt N W w wt lk ll lw) (v1 v2 : Int32) : qm_B0 (fun post => wpX_queueAt post (nI N, nI T, wn, p.1, p.2.1, p.2.2.1, p.2.2.2.1, p.2.2.2.2.1, qb, ph, st, ck, hb, rb, lb, en, ov, hk, lk, ll, lw, p.2.2.2.2.2.1, p.2.2.2.2.2.2.1, p.2.2.2.2.2.2.2.1, p.2.2.2.2.2.2.2.2.1, p.2.2.2.2.2.2.2.2.2.1, p.2.2.2.2.2.2.2.2.2.2.1, p.2.2.2.2.2.2.2.2.2.2.2.1, p.2.2.2.2.2.2.2.2.2.2.2.2.1, p.2.2.2.2.2.2.2.2.2.2.2.2.2.1, p.2.2.2.2.2.2.2.2.2.2.2.2.2.2) v1 v2) (fun post => wpY_queueAt post (nI W, nI N, nI T, y.1, ph, st, ck, en, ov, sd, lo, ls, wt, y.2.1, y.2.2.1, y.2.2.2.1, y.2.2.2.2, re) v1 v2) := by
  have hN := hG.2.2.1
  rcases qm_rng N hN v1 with ⟨a, ha, e1⟩ | o1
  · subst e1
    have ha9 : a < 9 := by omega
    have hia : vp_in (nI a) 9 := vp_in_nI ha9 (by decide)
    have hca : (nI a).toNatClampNeg = a := nI_clamp (by omega)
    obtain ⟨l, h1, h2, h3, h4⟩ := hW.2.1.2 a ha9
    have hl9 := qm_ln_len h1
    have hsup : ∀ n, n < 9 → w (a * 9 + n) ≠ 0 → n < N := fun n hn hz => (hW.2.2 a n ha9 hn hz).2.1
    have place : ∀ n, n < N → 1 ≤ w (a * 9 + n) → ∃ j, j < l.length ∧ l[j]? = some (16 * w (a * 9 + n) + n) ∧ qm_cnt (qm_bf w a (16 * w (a * 9 + n) + n)) N = j := by
      intro n hn hw1
      have hmem : 16 * w (a * 9 + n) + n ∈ l := (h1.2 _).mpr (by
        rw [show (16 * w (a * 9 + n) + n) % 16 = n from by omega]
        exact ⟨by omega, by omega, by omega⟩)
      obtain ⟨A, B, e⟩ := List.append_of_mem hmem
      rw [e] at h1
      refine ⟨A.length, by rw [e]; simp, by rw [e]; exact qm_get A _ B, (qm_bf_len h1 hN hsup).symm⟩
    by_cases c0 : v2 < 0
    · refine ⟨-4, fun post hp => ?_, fun post hp => ?_⟩
      · unfold wpX_queueAt
        exact qm_xin_t hN ha (br_f (by decide) (br_t c0 hp))
      · unfold wpY_queueAt
        refine qm_yin_t hN ha (br_f (by decide) ⟨N + 1, qm_q12 hN ha9 hW.1 hW.2.1.1 (fun n hn hw1 he => ?_) (fun _ => hp) N 0 (by omega) (fun n hn => by omega)⟩)
        have c9 := qm_cnt_le (qm_bf w a (16 * w (a * 9 + n) + n)) N
        rw [← he] at c0
        exact absurd c0 (nI_pos (by omega))
    · obtain ⟨j, hj, e⟩ := nI_of c0
      subst e
      by_cases cl : j < l.length
      · obtain ⟨k, hk⟩ : ∃ k, l[j]? = some k := ⟨_, List.getElem?_eq_getElem cl⟩
        have hkm := (h1.2 k).mp (List.mem_of_getElem? hk)
        have hkl := qm_ln_k hW.2.1.1 h1 (List.mem_of_getElem? hk)
        have ej : nI a * 9 + nI j = nI (a * 9 + j) := qm_idx
        have hij : vp_in (nI a * 9 + nI j) 81 := by rw [ej]; exact vp_in_nI (by omega) (by decide)
        have rd : lk (nI a * 9 + nI j).toNatClampNeg = nI k := by rw [ej, nI_clamp (by omega)]; exact h3 j k hk
        have only : ∀ n, n < N → 1 ≤ w (a * 9 + n) → nI (qm_cnt (qm_bf w a (16 * w (a * 9 + n) + n)) N) = nI j → n = k % 16 := by
          intro n hn hw1 he
          obtain ⟨j', hj', hk', ec⟩ := place n hn hw1
          rw [ec] at he
          have := (nI_eq (by omega) hj).mp he
          subst this
          rw [hk] at hk'
          have : k = 16 * w (a * 9 + n) + n := by simpa using hk'
          omega
        refine ⟨nI (k % 16), fun post hp => ?_, fun post hp => ?_⟩
        · unfold wpX_queueAt
          refine qm_xin_t hN ha (br_f (by decide) (br_f c0 (And.intro hia (br_t (by rw [hca, h2]; exact nI_lt cl (by omega)) (And.intro hij ?_)))))
          rw [rd, qm_k15 (by omega)]
          exact hp
        · unfold wpY_queueAt
          refine qm_yin_t hN ha (br_f (by decide) ⟨N + 1, qm_q12 hN ha9 hW.1 hW.2.1.1 (fun n hn hw1 he => ?_) (fun hz => ?_) N 0 (by omega) (fun n hn => by omega)⟩)
          · rw [only n hn hw1 he]; exact hp
          · have hkN := hsup (k % 16) hkm.1 (by omega)
            obtain ⟨j', hj', hk', ec⟩ := place (k % 16) hkN (by omega)
            refine absurd ⟨by omega, ?_⟩ (hz (k % 16) hkN)
            rw [ec]
            apply congrArg nI
            have nd : l.Nodup := h1.1.imp (fun hlt => by omega)
            have ek : 16 * w (a * 9 + k % 16) + k % 16 = k := by omega
            rw [ek] at hk'
            exact (List.getElem?_inj hj' nd).mp (hk'.trans hk.symm)
      · refine ⟨-4, fun post hp => ?_, fun post hp => ?_⟩
        · unfold wpX_queueAt
          exact qm_xin_t hN ha (br_f (by decide) (br_f c0 (And.intro hia (br_f (by rw [hca, h2]; exact nI_nlt (by omega) hj) hp))))
        · unfold wpY_queueAt
          refine qm_yin_t hN ha (br_f (by decide) ⟨N + 1, qm_q12 hN ha9 hW.1 hW.2.1.1 (fun n hn hw1 he => ?_) (fun _ => hp) N 0 (by omega) (fun n hn => by omega)⟩)
          obtain ⟨j', hj', hk', ec⟩ := place n hn hw1
          rw [ec] at he
          have := (nI_eq (by omega) hj).mp he
          omega
  · refine ⟨-1, fun post hp => ?_, fun post hp => ?_⟩
    · unfold wpX_queueAt
      exact qm_xin_f o1 (br_t rfl hp)
    · unfold wpY_queueAt
      exact qm_yin_f o1 (br_t rfl hp)
end
end
section
/-! blocked: both sides reach the least closed set -/
def qm_Cp (N : Nat) (w : Nat → Nat) (lo : Nat → Int32) (x : Nat) (S : Nat → Bool) (j : Nat) : Prop := ∀ h, h < N → 1 ≤ w j → lo (j / 9) = nI h → (j % 9 = x ∨ S (j % 9) = true) → S h = true
def qm_Cl (N : Nat) (w : Nat → Nat) (lo : Nat → Int32) (x : Nat) (S : Nat → Bool) : Prop := ∀ j, j < 81 → qm_Cp N w lo x S j
def qm_Rh (N : Nat) (w : Nat → Nat) (lo : Nat → Int32) (x h : Nat) : Prop := ∀ S, qm_Cl N w lo x S → S h = true
def qm_So (N : Nat) (w : Nat → Nat) (lo : Nat → Int32) (x : Nat) (S : Nat → Bool) : Prop := ∀ h, h < 32 → S h = true → h < N ∧ qm_Rh N w lo x h
theorem qm_So_add {N x j h : Nat} {w : Nat → Nat} {lo : Nat → Int32} {S S' : Nat → Bool} (hs : qm_So N w lo x S) (hj : j < 81) (hh : h < N) (h1 : 1 ≤ w j) (hl : lo (j / 9) = nI h) (hx : j % 9 = x ∨ S (j % 9) = true) (e : ∀ i, i < 32 → S' i = true → i = h ∨ S i = true) : qm_So N w lo x S' := by
  intro i hi hi'
  rcases e i hi hi' with z | z
  · subst z
    refine ⟨hh, fun R hR => hR j hj i hh h1 hl ?_⟩
    rcases hx with z | z
    · exact Or.inl z
    · exact Or.inr ((hs _ (by omega) z).2 R hR)
  · exact hs i hi z
theorem qm_cnt_mono {P R : Nat → Bool} : ∀ {n : Nat}, (∀ i, i < n → P i = true → R i = true) → qm_cnt P n ≤ qm_cnt R n
  | 0, _ => Nat.le_refl _
  | n + 1, h => by
    have ih := qm_cnt_mono (n := n) (fun i hi => h i (by omega))
    by_cases c : P n = true
    · rw [qm_cnt_t c, qm_cnt_t (h n (by omega) c)]
      omega
    · rw [qm_cnt_f c]
      have : qm_cnt R n ≤ qm_cnt R (n + 1) := by
        simp only [qm_cnt]
        omega
      omega
theorem qm_cnt_lt {P R : Nat → Bool} {c : Nat} (hp : P c = false) (hr : R c = true) : ∀ {n : Nat}, c < n → (∀ i, i < n → P i = true → R i = true) → qm_cnt P n + 1 ≤ qm_cnt R n
  | 0, h, _ => by omega
  | n + 1, h, k => by
    rcases Nat.lt_or_ge c n with z | z
    · have ih := qm_cnt_lt hp hr z (fun i hi => k i (by omega))
      by_cases c' : P n = true
      · rw [qm_cnt_t c', qm_cnt_t (k n (by omega) c')]
        omega
      · rw [qm_cnt_f c']
        have : qm_cnt R n ≤ qm_cnt R (n + 1) := by
          simp only [qm_cnt]
          omega
        omega
    · have e : c = n := by omega
      subst e
      rw [qm_cnt_f (by rw [hp]; decide), qm_cnt_t hr]
      have := qm_cnt_mono (n := c) (P := P) (R := R) (fun i hi => k i (by omega))
      omega
theorem qm_cnt_all {P : Nat → Bool} : ∀ {n : Nat}, n ≤ qm_cnt P n → ∀ i, i < n → P i = true
  | 0, _, i, hi => by omega
  | n + 1, h, i, hi => by
    by_cases c : P n = true
    · rw [qm_cnt_t c] at h
      by_cases e : i = n
      · rw [e]; exact c
      · exact qm_cnt_all (n := n) (by omega) i (by omega)
    · rw [qm_cnt_f c] at h
      have := qm_cnt_le P n
      omega
theorem qm_Cl_all {N x : Nat} {w : Nat → Nat} {lo : Nat → Int32} {S : Nat → Bool} (h : ∀ i, i < N → S i = true) : qm_Cl N w lo x S := fun _ _ i hi _ _ _ => h i hi
section
variable {N W T : Nat} {w : Nat → Nat} {wn : Int32} {p : qm_PT} {y : qm_YT} {qb ph st ck hb rb lb en ov hk lk ll lw sd lo ls wt re : Nat → Int32}
variable {x z : Nat} {tp : Int32}
theorem qm_x115 {post : Int32 → Prop} {nn : Int32} {C : Int32} (hz : z < 32) (hs : qm_So N w lo x (bt C)) (hc : qm_Cl N w lo x (bt C)) (t : qm_Rh N w lo x z → post 1) (f : ¬ qm_Rh N w lo x z → post 0) : wX_blocked_115 post (nI z) C nn tp wn p.1 p.2.1 p.2.2.1 p.2.2.2.1 p.2.2.2.2.1 qb ph st ck hb rb lb en ov hk lk ll lw p.2.2.2.2.2.1 p.2.2.2.2.2.2.1 p.2.2.2.2.2.2.2.1 p.2.2.2.2.2.2.2.2.1 p.2.2.2.2.2.2.2.2.2.1 p.2.2.2.2.2.2.2.2.2.2.1 p.2.2.2.2.2.2.2.2.2.2.2.1 p.2.2.2.2.2.2.2.2.2.2.2.2.1 p.2.2.2.2.2.2.2.2.2.2.2.2.2.1 p.2.2.2.2.2.2.2.2.2.2.2.2.2.2 := by
  by_cases c : bt C z = true
  · refine br_f ?_ (t (hs z hz c).2)
    rw [qm_a0 hz, c]; decide
  · refine br_t ?_ (f (fun h => c (h _ hc)))
    rw [qm_a0 hz]
    cases e : bt C z
    · rfl
    · exact absurd e c
theorem qm_x42 {post : Int32 → Prop} {J : Int32 → Int32 → Prop} {B : Int32} {rd : Nat} (hN : N ≤ 9) (hx : x < 9) (hH : qm_H N W hk lo ls) (hX : qm_LX w lk ll lw) (hB : qm_So N w lo x (bt B))
    (K1 : qm_Cl N w lo x (bt B) → wX_blocked_115 post (nI z) B (nI N) tp wn p.1 p.2.1 p.2.2.1 p.2.2.2.1 p.2.2.2.2.1 qb ph st ck hb rb lb en ov hk lk ll lw p.2.2.2.2.2.1 p.2.2.2.2.2.2.1 p.2.2.2.2.2.2.2.1 p.2.2.2.2.2.2.2.2.1 p.2.2.2.2.2.2.2.2.2.1 p.2.2.2.2.2.2.2.2.2.2.1 p.2.2.2.2.2.2.2.2.2.2.2.1 p.2.2.2.2.2.2.2.2.2.2.2.2.1 p.2.2.2.2.2.2.2.2.2.2.2.2.2.1 p.2.2.2.2.2.2.2.2.2.2.2.2.2.2) (hsup : ∀ a n, a < 9 → n < 9 → w (a * 9 + n) ≠ 0 → a < N ∧ n < N ∧ qm_q W a n = true)
    (K2 : ∀ C : Int32, qm_So N w lo x (bt C) → qm_cnt (bt B) N + 1 ≤ qm_cnt (bt C) N → J C (nI (rd + 1))) :
    ∀ (d a : Nat) (C : Int32), a + d = N → qm_So N w lo x (bt C) → (∀ i, i < 32 → bt B i = true → bt C i = true) → (C = B → ∀ j, j < a * 9 → qm_Cp N w lo x (bt B) j) → wX_blocked_42 post J (nI z) ((1 : Int32) <<< (nI x &&& 31)) (nI rd) B (nI N) tp wn p.1 p.2.1 p.2.2.1 p.2.2.2.1 p.2.2.2.2.1 qb ph st ck hb rb lb en ov hk lk ll lw p.2.2.2.2.2.1 p.2.2.2.2.2.2.1 p.2.2.2.2.2.2.2.1 p.2.2.2.2.2.2.2.2.1 p.2.2.2.2.2.2.2.2.2.1 p.2.2.2.2.2.2.2.2.2.2.1 p.2.2.2.2.2.2.2.2.2.2.2.1 p.2.2.2.2.2.2.2.2.2.2.2.2.1 p.2.2.2.2.2.2.2.2.2.2.2.2.2.1 p.2.2.2.2.2.2.2.2.2.2.2.2.2.2 (d + 1) C (nI a)
  | 0, a, C, hd, hs, hm, hc => by
    have e : a = N := by omega
    subst e
    refine br_t (nI_le (Nat.le_refl _) (by omega)) ?_
    by_cases eC : C = B
    · refine br_t eC ?_
      rw [eC]
      refine K1 (fun j hj => ?_)
      rcases Nat.lt_or_ge j (a * 9) with q | q
      · exact hc eC j q
      · intro h _ h1
        have := (hsup (j / 9) (j % 9) (by omega) (by omega) (by rw [show j / 9 * 9 + j % 9 = j from by omega]; omega)).1
        omega
    · refine br_f eC (nm_r (nI_1 _) (K2 C hs ?_))
      have hex : ∃ h, h < a ∧ bt C h = true ∧ bt B h = false := by
        rcases Classical.em (∃ h, h < a ∧ bt C h = true ∧ bt B h = false) with q | q
        · exact q
        · exfalso
          apply eC
          apply b_ext
          intro i hi
          cases eb : bt B i
          · cases ec : bt C i
            · rfl
            · exact absurd ⟨i, (hs i hi ec).1, ec, eb⟩ q
          · exact hm i hi eb
      obtain ⟨h, h1, h2, h3⟩ := hex
      exact qm_cnt_lt h3 h2 h1 (fun i hi => hm i (by omega))
  | d + 1, a, C, hd, hs, hm, hc => by
    have ha9 : a < 9 := by omega
    have hia : vp_in (nI a) 9 := vp_in_nI ha9 (by decide)
    have hca : (nI a).toNatClampNeg = a := nI_clamp (by omega)
    refine br_f (nI_ge (by omega) (by omega)) (And.intro hia ?_)
    rcases hH a ha9 with ⟨e1, e2, e3⟩ | ⟨n0, s0, hn0, hs01, hs0, hq0, e1, e2, e3⟩
    · refine br_t (by rw [hca, e1]; decide) (nm_r (nI_1 _) ?_)
      refine qm_x42 hN hx hH hX hB K1 hsup K2 d (a + 1) C (by omega) hs hm (fun eC j hj => ?_)
      rcases Nat.lt_or_ge j (a * 9) with q | q
      · exact hc eC j q
      · intro h hh _ hl
        rw [show j / 9 = a from by omega, e2] at hl
        exact absurd hl.symm (qm_nm1 (by omega))
    · obtain ⟨l, _, _, _, h4⟩ := hX.2 a ha9
      refine br_f (by rw [hca, e1]; exact nI_pos (by omega)) (And.intro hia ?_)
      have bx : ∀ i, i < 32 → bt (((1 : Int32) <<< (nI x &&& 31)) ||| C) i = (decide (i = x) || bt C i) := fun i hi => by rw [b_or, qm_b1 (by omega) hi]
      by_cases c : (lw (nI a).toNatClampNeg &&& (((1 : Int32) <<< (nI x &&& 31)) ||| C)) = 0
      · refine br_t c (nm_r (nI_1 _) ?_)
        refine qm_x42 hN hx hH hX hB K1 hsup K2 d (a + 1) C (by omega) hs hm (fun eC j hj => ?_)
        rcases Nat.lt_or_ge j (a * 9) with q | q
        · exact hc eC j q
        · intro h hh h1 hl hxx
          rw [hca, qm_aa] at c
          have ej : a * 9 + j % 9 = j := by omega
          have k1 := c (j % 9) (by omega) (by rw [h4 _ (by omega), ej]; exact decide_eq_true ⟨by omega, by omega⟩)
          rw [bx _ (by omega), eC] at k1
          simp only [Bool.or_eq_false_iff, decide_eq_false_iff_not] at k1
          rcases hxx with q2 | q2
          · exact absurd q2 k1.1
          · rw [k1.2] at q2; exact absurd q2 (by decide)
      · have e15 : (hk (nI a).toNatClampNeg &&& 15) = nI n0 := by rw [hca, e1, qm_k15 (by omega)]; exact congrArg nI (by omega)
        refine br_f c (And.intro hia (nm_r (e' := C ||| ((1 : Int32) <<< (nI n0 &&& 31))) (by rw [e15]) (nm_r (nI_1 _) ?_)))
        have hex : ∃ i, i < 32 ∧ bt (lw a) i = true ∧ bt (((1 : Int32) <<< (nI x &&& 31)) ||| C) i = true := by
          rcases Classical.em (∃ i, i < 32 ∧ bt (lw a) i = true ∧ bt (((1 : Int32) <<< (nI x &&& 31)) ||| C) i = true) with q | q
          · exact q
          · exfalso
            apply c
            rw [hca, qm_aa]
            intro i hi hli
            cases eb : bt (((1 : Int32) <<< (nI x &&& 31)) ||| C) i
            · rfl
            · exact absurd ⟨i, hi, hli, eb⟩ q
        obtain ⟨i, hi, k1, k2⟩ := hex
        rw [h4 i hi] at k1
        have k1 := of_decide_eq_true k1
        rw [bx i hi, Bool.or_eq_true, decide_eq_true_eq] at k2
        have bn : ∀ j, j < 32 → bt (C ||| ((1 : Int32) <<< (nI n0 &&& 31))) j = (bt C j || decide (j = n0)) := fun j hj => qm_bst (by omega) hj
        refine qm_x42 hN hx hH hX hB K1 hsup K2 d (a + 1) _ (by omega) ?_ (fun j hj hbj => ?_) (fun eC j hj => ?_)
        · refine qm_So_add (j := a * 9 + i) hs (by omega) hn0 (by omega) (by rw [show (a * 9 + i) / 9 = a from by omega]; exact e2) (by rw [show (a * 9 + i) % 9 = i from by omega]; exact k2) (fun j hj hbj => ?_)
          rw [bn j hj, Bool.or_eq_true, decide_eq_true_eq] at hbj
          rcases hbj with q | q
          · exact Or.inr q
          · exact Or.inl q
        · rw [bn j hj, hm j hj hbj, Bool.true_or]
        · have eCB : C = B := by
            apply b_ext
            intro i hi
            cases eb : bt B i
            · have := bn i hi
              rw [eC, eb] at this
              cases ec : bt C i
              · rfl
              · rw [ec] at this; exact absurd this (by simp)
            · exact hm i hi eb
          rcases Nat.lt_or_ge j (a * 9) with q | q
          · exact hc eCB j q
          · intro h hh h1 hl hxx
            rw [show j / 9 = a from by omega, e2] at hl
            have eh : n0 = h := (nI_eq (by omega) (by omega)).mp hl
            have := bn h (by omega)
            rw [eC, decide_eq_true eh.symm, Bool.or_true] at this
            exact this
theorem qm_x28 {post : Int32 → Prop} (hN : N ≤ 9) (hx : x < 9) (hz : z < 9) (hH : qm_H N W hk lo ls) (hX : qm_LX w lk ll lw) (hsup : ∀ a n, a < 9 → n < 9 → w (a * 9 + n) ≠ 0 → a < N ∧ n < N ∧ qm_q W a n = true) (t : qm_Rh N w lo x z → post 1) (f : ¬ qm_Rh N w lo x z → post 0) :
    ∀ (d i : Nat) (C : Int32), i + d = 9 → qm_So N w lo x (bt C) → i ≤ qm_cnt (bt C) N → wX_blocked_28 post (nI z) ((1 : Int32) <<< (nI x &&& 31)) (nI N) tp wn p.1 p.2.1 p.2.2.1 p.2.2.2.1 p.2.2.2.2.1 qb ph st ck hb rb lb en ov hk lk ll lw p.2.2.2.2.2.1 p.2.2.2.2.2.2.1 p.2.2.2.2.2.2.2.1 p.2.2.2.2.2.2.2.2.1 p.2.2.2.2.2.2.2.2.2.1 p.2.2.2.2.2.2.2.2.2.2.1 p.2.2.2.2.2.2.2.2.2.2.2.1 p.2.2.2.2.2.2.2.2.2.2.2.2.1 p.2.2.2.2.2.2.2.2.2.2.2.2.2.1 p.2.2.2.2.2.2.2.2.2.2.2.2.2.2 (d + 1) C (nI i)
  | 0, i, C, hd, hs, hc => by
    have e : i = 9 := by omega
    subst e
    exact br_t (by decide) (qm_x115 (by omega) hs (qm_Cl_all (qm_cnt_all (by omega))) t f)
  | d + 1, i, C, hd, hs, hc => by
    refine br_f (nI_ge (b := 9) (by omega) (by decide)) ⟨N + 1, ?_⟩
    refine qm_x42 hN hx hH hX hs (fun hcl => qm_x115 (by omega) hs hcl t f) hsup (fun C' hs' hcnt => ?_) N 0 C (by omega) hs (fun _ _ h => h) (fun _ j hj => by omega)
    exact qm_x28 hN hx hz hH hX hsup t f d (i + 1) C' (by omega) hs' (by omega)
end
end
section
/-! blocked: Y's side, and both -/
def qm_rb (re : Nat → Int32) (S : Nat → Bool) : Prop := ∀ i, i < 9 → re i = if S i = true then 1 else 0
theorem qm_nar1 : vp_nar .boolean 1 = 1 := rfl
theorem qm_nar0 : vp_nar .boolean 0 = 0 := rfl
theorem qm_rb_set {re : Nat → Int32} {S : Nat → Bool} {h : Nat} (hr : qm_rb re S) : qm_rb (upd re h 1) (fun i => i == h || S i) := by
  intro i hi
  by_cases e : i = h
  · subst e
    rw [pk_us]
    simp
  · rw [pk_un e, hr i hi]
    simp [e]
section
variable {N W T : Nat} {w : Nat → Nat} {wn : Int32} {p : qm_PT} {y : qm_YT} {qb ph st ck hb rb lb en ov hk lk ll lw sd lo ls wt re : Nat → Int32}
variable {x z : Nat} {co tp : Int32}
theorem qm_y52 {post : Int32 → SY → Prop} {J : Int32 → (Nat → Int32) → (Nat → Int32) → (Nat → Int32) → (Nat → Int32) → (Nat → Int32) → (Nat → Int32) → (Nat → Int32) → (Nat → Int32) → (Nat → Int32) → (Nat → Int32) → (Nat → Int32) → (Nat → Int32) → (Nat → Int32) → (Nat → Int32) → Prop} {S0 : Nat → Bool} {t : Nat} (hN : N ≤ 9) (hx : x < 9) (hH : qm_H N W hk lo ls) (hr : qm_rep wt w) (hw : ∀ j, w j ≤ 999)
    (K : ∀ (re' : Nat → Int32) (S' : Nat → Bool), qm_rb re' S' → qm_So N w lo x S' → (∀ i, i < 32 → S0 i = true → S' i = true) → (qm_Cl N w lo x S' ∨ qm_cnt S0 N + 1 ≤ qm_cnt S' N) → J (nI (t + 1)) ph st ck en ov sd lo ls wt y.2.1 y.2.2.1 y.2.2.2.1 y.2.2.2.2 re') :
    ∀ (d j : Nat) (S : Nat → Bool) (re : Nat → Int32), j + d = 81 → qm_rb re S → qm_So N w lo x S → (∀ i, i < 32 → S0 i = true → S i = true) → ((∀ i, i < 32 → S i = S0 i) → ∀ j', j' < j → qm_Cp N w lo x S0 j') → wY_blocked_52 post J (nI x) (nI z) (nI t) co (nI N) tp y.1 (d + 1) (nI j) ph st ck en ov sd lo ls wt y.2.1 y.2.2.1 y.2.2.2.1 y.2.2.2.2 re
  | 0, j, S, re, hd, hre, hs, hm, hc => by
    have e : j = 81 := by omega
    subst e
    refine br_t (by decide) (nm_r (nI_1 _) (K re S hre hs hm ?_))
    rcases Classical.em (∀ i, i < 32 → S i = S0 i) with q | q
    · refine Or.inl (fun j hj h hh h1 hl hxx => ?_)
      rw [q h (by omega)]
      rw [q (j % 9) (by omega)] at hxx
      exact hc q j hj h hh h1 hl hxx
    · right
      have hex : ∃ i, i < 32 ∧ S i = true ∧ S0 i = false := by
        rcases Classical.em (∃ i, i < 32 ∧ S i = true ∧ S0 i = false) with q2 | q2
        · exact q2
        · exfalso
          apply q
          intro i hi
          cases e0 : S0 i
          · cases e1 : S i
            · rfl
            · exact absurd ⟨i, hi, e1, e0⟩ q2
          · exact hm i hi e0
      obtain ⟨i, hi, h1, h2⟩ := hex
      exact qm_cnt_lt h2 h1 (hs i hi h1).1 (fun k hk' => hm k (by omega))
  | d + 1, j, S, re, hd, hre, hs, hm, hc => by
    have hj : j < 81 := by omega
    have h9 : ¬ (9 : Int32) = 0 := by decide
    have hij : vp_in (nI j) 81 := vp_in_nI hj (by decide)
    have hcj : (nI j).toNatClampNeg = j := nI_clamp (by omega)
    have ed : nI j / 9 = nI (j / 9) := qm_div9 hj
    have er : nI j - nI j / 9 * 9 = nI (j % 9) := qm_rem9 hj
    have hid : vp_in (nI j / 9) 9 := by rw [ed]; exact vp_in_nI (by omega) (by decide)
    have hcd : (nI j / 9).toNatClampNeg = j / 9 := by rw [ed]; exact nI_clamp (by omega)
    have hir : vp_in (nI j - nI j / 9 * 9) 9 := by rw [er]; exact vp_in_nI (by omega) (by decide)
    have hcr : (nI j - nI j / 9 * 9).toNatClampNeg = j % 9 := by rw [er]; exact nI_clamp (by omega)
    have hwj := hw j
    have skip : qm_Cp N w lo x S j → wY_blocked_52 post J (nI x) (nI z) (nI t) co (nI N) tp y.1 (d + 1) (nI (j + 1)) ph st ck en ov sd lo ls wt y.2.1 y.2.2.1 y.2.2.2.1 y.2.2.2.2 re := by
      intro hcp
      refine qm_y52 hN hx hH hr hw K d (j + 1) S re (by omega) hre hs hm (fun q j' hj' => ?_)
      rcases Nat.lt_or_ge j' j with q2 | q2
      · exact hc q j' q2
      · have e : j' = j := by omega
        subst e
        intro h hh h1 hl hxx
        rw [← q h (by omega)]
        rw [← q (j' % 9) (by omega)] at hxx
        exact hcp h hh h1 hl hxx
    refine br_f (nI_ge (b := 81) hj (by decide)) (And.intro h9 (And.intro hid (nm_r (e' := lo (j / 9)) (by rw [hcd]) (And.intro hij ?_))))
    by_cases c0 : w j = 0
    · exact br_t (by rw [hcj, hr j, c0]; decide) (nm_r (nI_1 _) (skip (fun h hh h1 => by omega)))
    · refine br_f (by rw [hcj, hr j]; exact nI_nle (by omega) (by omega)) ?_
      rcases hH (j / 9) (by omega) with ⟨e1, e2, e3⟩ | ⟨n0, s0, hn0, hs01, hs0, hq0, e1, e2, e3⟩
      · refine br_t (by rw [e2]; decide) (nm_r (nI_1 _) (skip (fun h hh h1 hl => ?_)))
        rw [e2] at hl
        exact absurd hl.symm (qm_nm1 (by omega))
      · have hi0 : vp_in (lo (j / 9)) 9 := by rw [e2]; exact vp_in_nI (by omega) (by decide)
        have hc0 : (lo (j / 9)).toNatClampNeg = n0 := by rw [e2]; exact nI_clamp (by omega)
        have set : (j % 9 = x ∨ S (j % 9) = true) → wY_blocked_52 post J (nI x) (nI z) (nI t) co (nI N) tp y.1 (d + 1) (nI (j + 1)) ph st ck en ov sd lo ls wt y.2.1 y.2.2.1 y.2.2.2.1 y.2.2.2.2 (upd re n0 1) := by
          intro hxx
          refine qm_y52 hN hx hH hr hw K d (j + 1) (fun i => i == n0 || S i) (upd re n0 1) (by omega) (qm_rb_set hre) ?_ (fun i hi h0 => by simp [hm i hi h0]) (fun q j' hj' => ?_)
          · refine qm_So_add hs hj hn0 (by omega) e2 hxx (fun i hi hi' => ?_)
            simpa using hi'
          · have q1 : ∀ i, i < 32 → S i = S0 i := by
              intro i hi
              have := q i hi
              cases e0 : S0 i
              · rw [e0] at this
                cases e1 : S i
                · rfl
                · rw [e1] at this; simp at this
              · exact hm i hi e0
            rcases Nat.lt_or_ge j' j with q2 | q2
            · exact hc q1 j' q2
            · have e : j' = j := by omega
              subst e
              intro h hh h1 hl _
              rw [e2] at hl
              have eh : n0 = h := (nI_eq (by omega) (by omega)).mp hl
              rw [← q h (by omega), ← eh]
              simp
        refine br_f (by rw [e2]; exact nI_pos (by omega)) (And.intro h9 ?_)
        by_cases cx : j % 9 = x
        · exact br_t (by rw [er, cx]) (And.intro hi0 (nm_r (e' := upd re n0 1) (by rw [hc0, qm_nar1]) (nm_r (nI_1 _) (set (Or.inl cx)))))
        · refine br_f (by rw [er, nI_eq (by omega) (by omega)]; exact cx) (And.intro h9 (And.intro hir ?_))
          have hrr := hre (j % 9) (by omega)
          by_cases cs : S (j % 9) = true
          · rw [if_pos cs] at hrr
            exact br_f (by rw [hcr, hrr]; decide) (And.intro hi0 (nm_r (e' := upd re n0 1) (by rw [hc0, qm_nar1]) (nm_r (nI_1 _) (set (Or.inr cs)))))
          · rw [if_neg cs] at hrr
            exact br_t (by rw [hcr, hrr]) (nm_r (nI_1 _) (skip (fun h hh h1 hl hxx => by
              rcases hxx with q | q
              · exact absurd q cx
              · exact absurd q cs)))
theorem qm_y41 {post : Int32 → SY → Prop} (hN : N ≤ 9) (hx : x < 9) (hz : z < 9) (hH : qm_H N W hk lo ls) (hr : qm_rep wt w) (hw : ∀ j, w j ≤ 999) (tt : qm_Rh N w lo x z → ∀ re, post 1 (co, nI N, tp, y.1, ph, st, ck, en, ov, sd, lo, ls, wt, y.2.1, y.2.2.1, y.2.2.2.1, y.2.2.2.2, re)) (ff : ¬ qm_Rh N w lo x z → ∀ re, post 0 (co, nI N, tp, y.1, ph, st, ck, en, ov, sd, lo, ls, wt, y.2.1, y.2.2.1, y.2.2.2.1, y.2.2.2.2, re)) :
    ∀ (d i : Nat) (S : Nat → Bool) (re : Nat → Int32), i + d = N → qm_rb re S → qm_So N w lo x S → (qm_Cl N w lo x S ∨ i ≤ qm_cnt S N) → wY_blocked_41 post (nI x) (nI z) co (nI N) tp y.1 (d + 1) (nI i) ph st ck en ov sd lo ls wt y.2.1 y.2.2.1 y.2.2.2.1 y.2.2.2.2 re
  | 0, i, S, re, hd, hre, hs, hc => by
    have e : i = N := by omega
    subst e
    have hcl : qm_Cl i w lo x S := by
      rcases hc with q | q
      · exact q
      · exact qm_Cl_all (qm_cnt_all q)
    have hiz : vp_in (nI z) 9 := vp_in_nI hz (by decide)
    have hcz : (nI z).toNatClampNeg = z := nI_clamp (by omega)
    have hrz := hre z hz
    refine br_t (nI_le (Nat.le_refl _) (by omega)) (And.intro hiz ?_)
    rw [hcz]
    by_cases c : S z = true
    · rw [if_pos c] at hrz
      rw [hrz]
      exact And.intro narrow_b1 (tt (hs z (by omega) c).2 re)
    · rw [if_neg c] at hrz
      rw [hrz]
      exact And.intro narrow_b0 (ff (fun h => c (h S hcl)) re)
  | d + 1, i, S, re, hd, hre, hs, hc => by
    refine br_f (nI_ge (by omega) (by omega)) ⟨82, ?_⟩
    refine qm_y52 (S0 := S) hN hx hH hr hw (fun re' S' h1 h2 h3 h4 => ?_) 81 0 S re rfl hre hs (fun _ _ h => h) (fun _ j' hj' => by omega)
    refine qm_y41 hN hx hz hH hr hw tt ff d (i + 1) S' re' (by omega) h1 h2 ?_
    rcases hc with q | q
    · refine Or.inl (fun j hj h hh g1 hl hxx => h3 h (by omega) (q j hj h hh g1 hl ?_))
      rcases hxx with q2 | q2
      · exact Or.inl q2
      · exact Or.inr ((h2 (j % 9) (by omega) q2).2 S q)
    · rcases h4 with q2 | q2
      · exact Or.inl q2
      · exact Or.inr (by omega)
theorem qm_y20 {post : Int32 → SY → Prop} (hN : N ≤ 9) (hx : x < 9) (hz : z < 9) (hH : qm_H N W hk lo ls) (hr : qm_rep wt w) (hw : ∀ j, w j ≤ 999) (tt : qm_Rh N w lo x z → ∀ re, post 1 (co, nI N, tp, y.1, ph, st, ck, en, ov, sd, lo, ls, wt, y.2.1, y.2.2.1, y.2.2.2.1, y.2.2.2.2, re)) (ff : ¬ qm_Rh N w lo x z → ∀ re, post 0 (co, nI N, tp, y.1, ph, st, ck, en, ov, sd, lo, ls, wt, y.2.1, y.2.2.1, y.2.2.2.1, y.2.2.2.2, re)) :
    ∀ (d i : Nat) (re : Nat → Int32), i + d = 9 → (∀ j, j < i → re j = 0) → wY_blocked_20 post (nI x) (nI z) co (nI N) tp y.1 (d + 1) (nI i) ph st ck en ov sd lo ls wt y.2.1 y.2.2.1 y.2.2.2.1 y.2.2.2.2 re
  | 0, i, re, hd, h0 => by
    have e : i = 9 := by omega
    subst e
    refine br_t (by decide) ⟨N + 1, ?_⟩
    refine qm_y41 hN hx hz hH hr hw tt ff N 0 (fun _ => false) re (by omega) (fun i hi => ?_) (fun i _ h => absurd (show false = true from h) (by decide)) (Or.inr (Nat.zero_le _))
    rw [h0 i hi]
    rfl
  | d + 1, i, re, hd, h0 => by
    have hi : vp_in (nI i) 9 := vp_in_nI (by omega) (by decide)
    have hc : (nI i).toNatClampNeg = i := nI_clamp (by omega)
    refine br_f (nI_ge (b := 9) (by omega) (by decide)) (And.intro hi (nm_r (e' := upd re i 0) (by rw [hc, qm_nar0]) (nm_r (nI_1 _) ?_)))
    refine qm_y20 hN hx hz hH hr hw tt ff d (i + 1) (upd re i 0) (by omega) (fun j hj => ?_)
    by_cases e : j = i
    · rw [e]; exact pk_us
    · rw [pk_un e]; exact h0 j (by omega)
end
section
variable {N W T : Nat} {sv cv sg w : Nat → Nat} {Q : List qm_M} {wn : Int32} {p : qm_PT} {y : qm_YT} {qb ph st ck hb rb lb en ov hk lk ll lw sd lo ls wt re : Nat → Int32}
theorem qm_blocked (hG : qm_G N W T qb) (hR : qm_R sv cv wn ph st ck) (hS : qm_S N W sg sd hb rb lb) (hH : qm_H N W hk lo ls) (hW : qm_Wt N W w wt lk ll lw) (hP : qm_P N W Q p y) (v1 v2 : Int32) :
    ∃ r, (∀ post : Int32 → Prop, post r → wpX_blocked post (nI N, nI T, wn, p.1, p.2.1, p.2.2.1, p.2.2.2.1, p.2.2.2.2.1, qb, ph, st, ck, hb, rb, lb, en, ov, hk, lk, ll, lw, p.2.2.2.2.2.1, p.2.2.2.2.2.2.1, p.2.2.2.2.2.2.2.1, p.2.2.2.2.2.2.2.2.1, p.2.2.2.2.2.2.2.2.2.1, p.2.2.2.2.2.2.2.2.2.2.1, p.2.2.2.2.2.2.2.2.2.2.2.1, p.2.2.2.2.2.2.2.2.2.2.2.2.1, p.2.2.2.2.2.2.2.2.2.2.2.2.2.1, p.2.2.2.2.2.2.2.2.2.2.2.2.2.2) v1 v2) ∧ ∀ post : Int32 → SY → Prop, (∀ v', qm_Rel (nI N, nI T, wn, p.1, p.2.1, p.2.2.1, p.2.2.2.1, p.2.2.2.2.1, qb, ph, st, ck, hb, rb, lb, en, ov, hk, lk, ll, lw, p.2.2.2.2.2.1, p.2.2.2.2.2.2.1, p.2.2.2.2.2.2.2.1, p.2.2.2.2.2.2.2.2.1, p.2.2.2.2.2.2.2.2.2.1, p.2.2.2.2.2.2.2.2.2.2.1, p.2.2.2.2.2.2.2.2.2.2.2.1, p.2.2.2.2.2.2.2.2.2.2.2.2.1, p.2.2.2.2.2.2.2.2.2.2.2.2.2.1, p.2.2.2.2.2.2.2.2.2.2.2.2.2.2) v' → post r v') → wpY_blocked post (nI W, nI N, nI T, y.1, ph, st, ck, en, ov, sd, lo, ls, wt, y.2.1, y.2.2.1, y.2.2.2.1, y.2.2.2.2, re) v1 v2 := by
  have hN := hG.2.2.1
  have rel : ∀ re : Nat → Int32, qm_Rel (nI N, nI T, wn, p.1, p.2.1, p.2.2.1, p.2.2.2.1, p.2.2.2.2.1, qb, ph, st, ck, hb, rb, lb, en, ov, hk, lk, ll, lw, p.2.2.2.2.2.1, p.2.2.2.2.2.2.1, p.2.2.2.2.2.2.2.1, p.2.2.2.2.2.2.2.2.1, p.2.2.2.2.2.2.2.2.2.1, p.2.2.2.2.2.2.2.2.2.2.1, p.2.2.2.2.2.2.2.2.2.2.2.1, p.2.2.2.2.2.2.2.2.2.2.2.2.1, p.2.2.2.2.2.2.2.2.2.2.2.2.2.1, p.2.2.2.2.2.2.2.2.2.2.2.2.2.2) (nI W, nI N, nI T, y.1, ph, st, ck, en, ov, sd, lo, ls, wt, y.2.1, y.2.2.1, y.2.2.2.1, y.2.2.2.2, re) := fun re => qm_mk hG hR hS hH hW hP
  rcases qm_rng N hN v1 with ⟨x, hx, e1⟩ | o1
  · subst e1
    rcases qm_rng N hN v2 with ⟨z, hz, e2⟩ | o2
    · subst e2
      have hx9 : x < 9 := by omega
      have hz9 : z < 9 := by omega
      have s0 : qm_So N w lo x (bt 0) := fun h _ hb0 => by rw [b_0] at hb0; exact absurd hb0 (by decide)
      rcases Classical.em (qm_Rh N w lo x z) with c | c
      · refine ⟨1, fun post hp => ?_, fun post hp => ?_⟩
        · unfold wpX_blocked
          refine qm_xin_t hN hx (br_f (by decide) ?_)
          refine qm_xin_t hN hz (br_f (by decide) (nm_e ⟨10, ?_⟩))
          exact qm_x28 hN hx9 hz9 hH hW.2.1 hW.2.2 (fun _ => hp) (fun q => absurd c q) 9 0 0 rfl s0 (Nat.zero_le _)
        · unfold wpY_blocked
          refine qm_yin_t hN hx (br_f (by decide) ?_)
          refine qm_yin_t hN hz (br_f (by decide) ⟨10, ?_⟩)
          exact qm_y20 hN hx9 hz9 hH hW.1 hW.2.1.1 (fun _ re => hp _ (rel re)) (fun q => absurd c q) 9 0 re rfl (fun j hj => by omega)
      · refine ⟨0, fun post hp => ?_, fun post hp => ?_⟩
        · unfold wpX_blocked
          refine qm_xin_t hN hx (br_f (by decide) ?_)
          refine qm_xin_t hN hz (br_f (by decide) (nm_e ⟨10, ?_⟩))
          exact qm_x28 hN hx9 hz9 hH hW.2.1 hW.2.2 (fun q => absurd q c) (fun _ => hp) 9 0 0 rfl s0 (Nat.zero_le _)
        · unfold wpY_blocked
          refine qm_yin_t hN hx (br_f (by decide) ?_)
          refine qm_yin_t hN hz (br_f (by decide) ⟨10, ?_⟩)
          exact qm_y20 hN hx9 hz9 hH hW.1 hW.2.1.1 (fun q => absurd q c) (fun _ re => hp _ (rel re)) 9 0 re rfl (fun j hj => by omega)
    · refine ⟨0, fun post hp => ?_, fun post hp => ?_⟩
      · unfold wpX_blocked
        refine qm_xin_t hN hx (br_f (by decide) ?_)
        exact qm_xin_f o2 (br_t rfl hp)
      · unfold wpY_blocked
        refine qm_yin_t hN hx (br_f (by decide) ?_)
        exact qm_yin_f o2 (br_t rfl (hp _ (rel re)))
  · refine ⟨0, fun post hp => ?_, fun post hp => ?_⟩
    · unfold wpX_blocked
      exact qm_xin_f o1 (br_t rfl hp)
    · unfold wpY_blocked
      exact qm_yin_f o1 (br_t rfl (hp _ (rel re)))
end
end
section
/-! the constructor of X -/
def qm_QBp (H W k : Nat) (qb : Nat → Int32) : Prop := ∀ n, n < k → ∀ m, m < 32 → bt (qb n) m = decide (m < H * W ∧ qm_q W n m = true)
theorem qm_W3 {W : Nat} (h1 : 1 ≤ W) (h3 : W ≤ 3) : W = 1 ∨ W = 2 ∨ W = 3 := by omega
theorem qm_ab1 {W i col m : Nat} (h1 : 1 ≤ W) (h3 : W ≤ 3) (hc : col < W) : (m < (i + 1) * W ∧ m % W = col) ↔ ((m < i * W ∧ m % W = col) ∨ m = i * W + col) := by
  rcases qm_W3 h1 h3 with e | e | e <;> subst e <;> omega
theorem qm_ab2 {W row j m : Nat} (h1 : 1 ≤ W) (h3 : W ≤ 3) (hj : j < W) : (m / W = row ∧ m % W < j + 1) ↔ ((m / W = row ∧ m % W < j) ∨ m = row * W + j) := by
  rcases qm_W3 h1 h3 with e | e | e <;> subst e <;> omega
theorem qm_ab3 {H W row col m : Nat} (h1 : 1 ≤ W) (h3 : W ≤ 3) (hr : row < H) (hc : col < W) : ((m < H * W ∧ m % W = col) ∨ (m / W = row ∧ m % W < W)) ↔ (m < H * W ∧ qm_q W (row * W + col) m = true) := by
  rw [qm_q_iff]
  rcases qm_W3 h1 h3 with e | e | e <;> subst e <;> omega
theorem qm_ab4 {H W i col : Nat} (h1 : 1 ≤ W) (h3 : W ≤ 3) (hH : H ≤ 3) (hi : i < H) (hc : col < W) : i * W + col < 9 := by
  rcases qm_W3 h1 h3 with e | e | e <;> subst e <;> omega
theorem qm_ixm {a b c : Nat} : nI a * nI b + nI c = nI (a * b + c) := by rw [pk_mul, nI_add]
section
variable {nn tp wn fh hd tl fc bz : Int32} {qb ph st ck hb rb lb en ov hk lk ll lw sk sf sr ss ns ps nc ch ct cc : Nat → Int32}
variable {H W row col : Nat} {post : SX → Prop} {J1 J2 : Int32 → (Nat → Int32) → (Nat → Int32) → (Nat → Int32) → (Nat → Int32) → (Nat → Int32) → (Nat → Int32) → (Nat → Int32) → (Nat → Int32) → (Nat → Int32) → (Nat → Int32) → (Nat → Int32) → (Nat → Int32) → (Nat → Int32) → (Nat → Int32) → (Nat → Int32) → (Nat → Int32) → (Nat → Int32) → (Nat → Int32) → (Nat → Int32) → (Nat → Int32) → (Nat → Int32) → (Nat → Int32) → (Nat → Int32) → Prop}
theorem qm_i292 (h1 : 1 ≤ W) (h3 : W ≤ 3) (hH : H ≤ 3) (hr : row < H) (hc : col < W) (K : ∀ b : Int32, (∀ m, m < 32 → bt b m = decide (m < H * W ∧ qm_q W (row * W + col) m = true)) → J2 (nI (col + 1)) (upd qb (row * W + col) b) ph st ck hb rb lb en ov hk lk ll lw sk sf sr ss ns ps nc ch ct cc) :
    ∀ (d j : Nat) (b : Int32), j + d = W → (∀ m, m < 32 → bt b m = decide ((m < H * W ∧ m % W = col) ∨ (m / W = row ∧ m % W < j))) → wX_init_292 post J1 J2 (nI H) (nI W) (nI row) (nI col) nn tp wn fh hd tl fc bz qb ph st ck hb rb lb en ov hk lk ll lw sk sf sr ss ns ps nc ch ct cc (d + 1) b (nI j)
  | 0, j, b, hd, hb' => by
    have e : j = W := by omega
    subst e
    have k9 := qm_ab4 (i := row) h1 h3 hH hr hc
    have hi : vp_in (nI row * nI j + nI col) 9 := by rw [qm_ixm]; exact vp_in_nI k9 (by decide)
    have hci : (nI row * nI j + nI col).toNatClampNeg = row * j + col := by rw [qm_ixm]; exact nI_clamp (by omega)
    refine br_t (nI_le (Nat.le_refl _) (by omega)) (And.intro hi (nm_r (e' := upd qb (row * j + col) b) (by rw [hci]) (nm_r (nI_1 _) (K b (fun m hm => ?_)))))
    rw [hb' m hm, Bool.eq_iff_iff, decide_eq_true_eq, decide_eq_true_eq]
    exact qm_ab3 h1 h3 hr hc
  | d + 1, j, b, hd, hb' => by
    have k9 := qm_ab4 (i := row) (col := j) h1 h3 hH hr (by omega)
    refine br_f (nI_ge (by omega) (by omega)) (nm_r (e' := b ||| ((1 : Int32) <<< (nI (row * W + j) &&& 31))) (by rw [qm_ixm]) (nm_r (nI_1 _) ?_))
    refine qm_i292 h1 h3 hH hr hc K d (j + 1) _ (by omega) (fun m hm => ?_)
    rw [qm_bst (by omega) hm, hb' m hm, Bool.eq_iff_iff, Bool.or_eq_true, decide_eq_true_eq, decide_eq_true_eq, decide_eq_true_eq, qm_ab2 h1 h3 (by omega), or_assoc]
theorem qm_i261 (h1 : 1 ≤ W) (h3 : W ≤ 3) (hH : H ≤ 3) (hr : row < H) (hc : col < W) (K : ∀ b : Int32, (∀ m, m < 32 → bt b m = decide (m < H * W ∧ qm_q W (row * W + col) m = true)) → J2 (nI (col + 1)) (upd qb (row * W + col) b) ph st ck hb rb lb en ov hk lk ll lw sk sf sr ss ns ps nc ch ct cc) :
    ∀ (d i : Nat) (b : Int32), i + d = H → (∀ m, m < 32 → bt b m = decide (m < i * W ∧ m % W = col)) → wX_init_261 post J1 J2 (nI H) (nI W) (nI row) (nI col) nn tp wn fh hd tl fc bz qb ph st ck hb rb lb en ov hk lk ll lw sk sf sr ss ns ps nc ch ct cc (d + 1) b (nI i)
  | 0, i, b, hd, hb' => by
    have e : i = H := by omega
    subst e
    refine br_t (nI_le (Nat.le_refl _) (by omega)) ⟨W + 1, ?_⟩
    refine qm_i292 h1 h3 hH hr hc K W 0 b (by omega) (fun m hm => ?_)
    rw [hb' m hm, Bool.eq_iff_iff, decide_eq_true_eq, decide_eq_true_eq]
    constructor
    · intro z; exact Or.inl z
    · rintro (z | z)
      · exact z
      · omega
  | d + 1, i, b, hd, hb' => by
    have k9 := qm_ab4 (i := i) (col := col) h1 h3 hH (by omega) hc
    refine br_f (nI_ge (by omega) (by omega)) (nm_r (e' := b ||| ((1 : Int32) <<< (nI (i * W + col) &&& 31))) (by rw [qm_ixm]) (nm_r (nI_1 _) ?_))
    refine qm_i261 h1 h3 hH hr hc K d (i + 1) _ (by omega) (fun m hm => ?_)
    rw [qm_bst (by omega) hm, hb' m hm, Bool.eq_iff_iff, Bool.or_eq_true, decide_eq_true_eq, decide_eq_true_eq, decide_eq_true_eq, qm_ab1 h1 h3 hc]
theorem qm_i248 (h1 : 1 ≤ W) (h3 : W ≤ 3) (hH : H ≤ 3) (hr : row < H) (K : ∀ qb : Nat → Int32, qm_QBp H W ((row + 1) * W) qb → J1 (nI (row + 1)) qb ph st ck hb rb lb en ov hk lk ll lw sk sf sr ss ns ps nc ch ct cc) :
    ∀ (d col : Nat) (qb : Nat → Int32), col + d = W → qm_QBp H W (row * W + col) qb → wX_init_248 post J1 (nI H) (nI W) (nI row) nn tp wn fh hd tl fc bz (d + 1) (nI col) qb ph st ck hb rb lb en ov hk lk ll lw sk sf sr ss ns ps nc ch ct cc
  | 0, col, qb, hd, hq => by
    have e : col = W := by omega
    subst e
    refine br_t (nI_le (Nat.le_refl _) (by omega)) (nm_r (nI_1 _) (K qb ?_))
    rw [Nat.add_mul, Nat.one_mul]
    exact hq
  | d + 1, col, qb, hd, hq => by
    refine br_f (nI_ge (by omega) (by omega)) ⟨H + 1, ?_⟩
    refine qm_i261 h1 h3 hH hr (by omega) (fun b hb' => ?_) H 0 0 (by omega) (fun m hm => ?_)
    · refine qm_i248 h1 h3 hH hr K d (col + 1) _ (by omega) (fun n hn m hm => ?_)
      by_cases e : n = row * W + col
      · rw [e, pk_us]
        exact hb' m hm
      · rw [pk_un e]
        exact hq n (by omega) m hm
    · rw [b_0]
      symm
      apply decide_eq_false
      omega
theorem qm_i238 (h1 : 1 ≤ W) (h3 : W ≤ 3) (hH : H ≤ 3) (K : ∀ qb : Nat → Int32, qm_QBp H W (H * W) qb → ∃ n, wX_init_350 post nn tp wn fh hd tl fc bz n 0 qb ph st ck hb rb lb en ov hk lk ll lw sk sf sr ss ns ps nc ch ct cc) :
    ∀ (d row : Nat) (qb : Nat → Int32), row + d = H → qm_QBp H W (row * W) qb → wX_init_238 post (nI H) (nI W) nn tp wn fh hd tl fc bz (d + 1) (nI row) qb ph st ck hb rb lb en ov hk lk ll lw sk sf sr ss ns ps nc ch ct cc
  | 0, row, qb, hd, hq => by
    have e : row = H := by omega
    subst e
    exact br_t (nI_le (Nat.le_refl _) (by omega)) (K qb hq)
  | d + 1, row, qb, hd, hq => by
    refine br_f (nI_ge (by omega) (by omega)) ⟨W + 1, ?_⟩
    refine qm_i248 h1 h3 hH (by omega) (fun qb hq' => ?_) W 0 qb (by omega) hq
    exact qm_i238 h1 h3 hH K d (row + 1) qb (by omega) hq'
theorem qm_i350 (K : ∀ hk : Nat → Int32, (∀ j, j < 9 → hk j = -1) → ∃ n, wX_init_374 post nn tp wn fh hd tl fc bz n 0 qb ph st ck hb rb lb en ov hk lk ll lw sk sf sr ss ns ps nc ch ct cc) :
    ∀ (d i : Nat) (hk : Nat → Int32), i + d = 9 → (∀ j, j < i → hk j = -1) → wX_init_350 post nn tp wn fh hd tl fc bz (d + 1) (nI i) qb ph st ck hb rb lb en ov hk lk ll lw sk sf sr ss ns ps nc ch ct cc
  | 0, i, hk, hd, h0 => by
    have e : i = 9 := by omega
    subst e
    exact br_t (by decide) (K hk h0)
  | d + 1, i, hk, hd, h0 => by
    have hi : vp_in (nI i) 9 := vp_in_nI (by omega) (by decide)
    have hc : (nI i).toNatClampNeg = i := nI_clamp (by omega)
    refine br_f (nI_ge (b := 9) (by omega) (by decide)) (And.intro hi (nm_r (e' := upd hk i (-1)) (by rw [hc]) (nm_r (nI_1 _) ?_)))
    refine qm_i350 K d (i + 1) (upd hk i (-1)) (by omega) (fun j hj => ?_)
    by_cases e : j = i
    · rw [e]; exact pk_us
    · rw [pk_un e]; exact h0 j (by omega)
theorem qm_i374 (K : ∀ ch ct : Nat → Int32, (∀ j, j < 81 → ch j = -1 ∧ ct j = -1) → ∃ n, wX_init_406 post nn tp wn fh hd tl fc bz n 0 qb ph st ck hb rb lb en ov hk lk ll lw sk sf sr ss ns ps nc ch ct cc) :
    ∀ (d i : Nat) (ch ct : Nat → Int32), i + d = 81 → (∀ j, j < i → ch j = -1 ∧ ct j = -1) → wX_init_374 post nn tp wn fh hd tl fc bz (d + 1) (nI i) qb ph st ck hb rb lb en ov hk lk ll lw sk sf sr ss ns ps nc ch ct cc
  | 0, i, ch, ct, hd, h0 => by
    have e : i = 81 := by omega
    subst e
    exact br_t (by decide) (K ch ct h0)
  | d + 1, i, ch, ct, hd, h0 => by
    have hi : vp_in (nI i) 81 := vp_in_nI (by omega) (by decide)
    have hc : (nI i).toNatClampNeg = i := nI_clamp (by omega)
    refine br_f (nI_ge (b := 81) (by omega) (by decide)) (And.intro hi (nm_r (e' := upd ch i (-1)) (by rw [hc]) (And.intro hi (nm_r (e' := upd ct i (-1)) (by rw [hc]) (nm_r (nI_1 _) ?_)))))
    refine qm_i374 K d (i + 1) (upd ch i (-1)) (upd ct i (-1)) (by omega) (fun j hj => ?_)
    by_cases e : j = i
    · rw [e]; exact ⟨pk_us, pk_us⟩
    · rw [pk_un e, pk_un e]; exact h0 j (by omega)
theorem qm_i406 (K : ∀ ns ps nc : Nat → Int32, (∀ j, j < 199 → ns j = nI (j + 1)) → ns 199 = -1 → post (nn, tp, wn, 0, (-1), (-1), fc, bz, qb, ph, st, ck, hb, rb, lb, en, ov, hk, lk, ll, lw, sk, sf, sr, ss, ns, ps, nc, ch, ct, cc)) :
    ∀ (d i : Nat) (ns ps nc : Nat → Int32), i + d = 200 → (∀ j, j < i → ns j = nI (j + 1)) → wX_init_406 post nn tp wn fh hd tl fc bz (d + 1) (nI i) qb ph st ck hb rb lb en ov hk lk ll lw sk sf sr ss ns ps nc ch ct cc
  | 0, i, ns, ps, nc, hd, h0 => by
    have e : i = 200 := by omega
    subst e
    refine br_t (by decide) (nm_e (K (upd ns 199 (-1)) ps nc (fun j hj => ?_) pk_us))
    rw [pk_un (by omega)]
    exact h0 j (by omega)
  | d + 1, i, ns, ps, nc, hd, h0 => by
    have hi : vp_in (nI i) 200 := vp_in_nI (by omega) (by decide)
    have hc : (nI i).toNatClampNeg = i := nI_clamp (by omega)
    refine br_f (nI_ge (b := 200) (by omega) (by decide)) (And.intro hi (nm_r (e' := upd ns i (nI (i + 1))) (by rw [hc, nI_1]) (And.intro hi (nm_r (e' := upd ps i (-1)) (by rw [hc]) (And.intro hi (nm_r (e' := upd nc i (-1)) (by rw [hc]) (nm_r (nI_1 _) ?_)))))))
    refine qm_i406 K d (i + 1) (upd ns i (nI (i + 1))) (upd ps i (-1)) (upd nc i (-1)) (by omega) (fun j hj => ?_)
    by_cases e : j = i
    · rw [e]; exact pk_us
    · rw [pk_un e]; exact h0 j (by omega)
end
end
section
/-! both constructors give related states -/
theorem qm_ch_rng {ns : Nat → Int32} (h1 : ∀ j, j < 199 → ns j = nI (j + 1)) (h2 : ns 199 = -1) : ∀ d i : Nat, i + d = 200 → qm_ch ns (List.range' i d)
  | 0, i, _ => trivial
  | d + 1, i, hd => by
    rw [List.range'_succ]
    refine ⟨?_, qm_ch_rng h1 h2 d (i + 1) (by omega)⟩
    cases d with
    | zero =>
      have e : i = 199 := by omega
      subst e
      exact h2
    | succ d =>
      rw [h1 i (by omega), List.range'_succ]
      rfl
theorem qm_cnt0 {P : Nat → Bool} : ∀ {n : Nat}, (∀ i, i < n → P i = false) → qm_cnt P n = 0
  | 0, _ => rfl
  | n + 1, h => by
    rw [qm_cnt_f (by rw [h n (by omega)]; decide), qm_cnt0 (fun i hi => h i (by omega))]
theorem qm_PX0 {ns ps nc ch ct : Nat → Int32} (hc : ∀ j, j < 81 → ch j = -1 ∧ ct j = -1) (h1 : ∀ j, j < 199 → ns j = nI (j + 1)) (h2 : ns 199 = -1) : qm_PX [] (0, -1, -1, 0, 0, (fun _ => 0), (fun _ => 0), (fun _ => 0), (fun _ => 0), ns, ps, nc, ch, ct, (fun _ => 0)) := by
  refine ⟨[], List.range' 0 200, fun _ => (0, 0, 0, 0), ⟨?_, ?_, ?_, ?_, rfl, qm_ch_rng h1 h2 200 0 rfl, ⟨rfl, rfl, trivial, trivial⟩, ?_, ?_⟩, rfl⟩
  · rw [List.nil_append]
    exact List.nodup_range'
  · intro s hs
    rw [List.nil_append, List.mem_range'_1] at hs
    omega
  · rw [List.length_range']
    rfl
  · rw [List.range'_succ]; rfl
  · intro s hs
    exact absurd hs (by simp)
  · refine ⟨fun c hc81 => ⟨trivial, (hc c hc81).1, (hc c hc81).2, rfl⟩, ?_⟩
    have e : qm_cnt (qm_bs (List.map (fun _ : Nat => ((0, 0, 0, 0) : qm_M)) [])) 81 = 0 := qm_cnt0 (fun i _ => rfl)
    rw [e]
    rfl
theorem qm_rel0 {H W T : Nat} {qb hk ns ps nc ch ct lo : Nat → Int32} (hH : H ≤ 3) (h1 : 1 ≤ W) (h3 : W ≤ 3) (hT : T ≤ 999) (hq : qm_QBp H W (H * W) qb) (hhk : ∀ j, j < 9 → hk j = -1) (hc : ∀ j, j < 81 → ch j = -1 ∧ ct j = -1) (hn1 : ∀ j, j < 199 → ns j = nI (j + 1)) (hn2 : ns 199 = -1) (hlo : ∀ j, j < 9 → lo j = -1) :
    qm_Rel (nI (H * W), nI T, 0, 0, -1, -1, 0, 0, qb, (fun _ => 0), (fun _ => 0), (fun _ => 0), (fun _ => 0), (fun _ => 0), (fun _ => 0), (fun _ => 0), (fun _ => 0), hk, (fun _ => 0), (fun _ => 0), (fun _ => 0), (fun _ => 0), (fun _ => 0), (fun _ => 0), (fun _ => 0), ns, ps, nc, ch, ct, (fun _ => 0))
      (nI W, nI (H * W), nI T, 0, (fun _ => 0), (fun _ => 0), (fun _ => 0), (fun _ => 0), (fun _ => 0), (fun _ => 0), lo, (fun _ => 0), (fun _ => 0), (fun _ => 0), (fun _ => 0), (fun _ => 0), (fun _ => 0), (fun _ => 0)) := by
  have hN : H * W ≤ 9 := by
    rcases qm_W3 h1 h3 with e | e | e <;> subst e <;> omega
  refine qm_mk (N := H * W) (W := W) (T := T) (sv := fun _ => 0) (cv := fun _ => 0) (sg := fun _ => 0) (w := fun _ => 0) (Q := []) (p := (0, -1, -1, 0, 0, (fun _ => 0), (fun _ => 0), (fun _ => 0), (fun _ => 0), ns, ps, nc, ch, ct, (fun _ => 0))) (y := (0, (fun _ => 0), (fun _ => 0), (fun _ => 0), (fun _ => 0)))
    ⟨h1, h3, hN, hT, hq⟩ ⟨fun _ => rfl, fun _ => Nat.zero_le _, fun i hi => absurd rfl hi, fun _ => rfl, fun _ => Nat.zero_le _, fun m hm => ?_⟩ ⟨fun _ => rfl, ⟨fun n hn a ha => ?_, fun n hn a ha => ⟨Nat.zero_le _, fun z => absurd rfl z⟩⟩⟩ (fun a ha => Or.inl ⟨hhk a ha, hlo a ha, rfl⟩) ⟨fun _ => rfl, ⟨fun _ => Nat.zero_le _, fun a ha => ?_⟩, fun a n ha hn z => absurd rfl z⟩ ⟨qm_PX0 hc hn1 hn2, ⟨Nat.zero_le _, rfl, fun i m hm => absurd hm (by simp)⟩, fun m hm => absurd hm (by simp)⟩
  · rw [b_0]
    symm
    apply decide_eq_false
    show ¬ (0 : Int32) = 1
    decide
  · rw [b_0]
    refine ⟨?_, ?_, ?_⟩
    · symm
      apply decide_eq_false
      rintro ⟨_, z⟩
      exact absurd (show (0 : Nat) = 1 from z) (by decide)
    · symm
      apply decide_eq_false
      rintro ⟨_, z⟩
      exact absurd (show (0 : Nat) = 2 from z) (by decide)
    · symm
      apply decide_eq_false
      rintro ⟨_, z⟩
      exact absurd (show (0 : Nat) = 3 from z) (by decide)
  · refine ⟨[], ⟨List.Pairwise.nil, fun k => ⟨fun z => absurd z (by simp), fun z => ?_⟩⟩, rfl, fun i k hk' => absurd hk' (by simp), fun n hn => ?_⟩
    · have z3 : (0 : Nat) = k / 16 := z.2.2
      have := z.2.1
      omega
    · rw [b_0]
      symm
      apply decide_eq_false
      rintro ⟨_, z⟩
      exact absurd (show (0 : Nat) < 0 from z) (by decide)
section
variable {co nn tp fc : Int32} {ph st ck en ov sd lo ls wt kd sn rc sm re : Nat → Int32}
theorem qm_y167 {post : SY → Prop} (K : ∀ lo : Nat → Int32, (∀ j, j < 9 → lo j = -1) → post (co, nn, tp, fc, ph, st, ck, en, ov, sd, lo, ls, wt, kd, sn, rc, sm, re)) : ∀ (d i : Nat) (lo : Nat → Int32), i + d = 9 → (∀ j, j < i → lo j = -1) → wY_init_167 post co nn tp fc (d + 1) (nI i) ph st ck en ov sd lo ls wt kd sn rc sm re
  | 0, i, lo, hd, h0 => by
    have e : i = 9 := by omega
    subst e
    exact br_t (by decide) (K lo h0)
  | d + 1, i, lo, hd, h0 => by
    have hi : vp_in (nI i) 9 := vp_in_nI (by omega) (by decide)
    have hc : (nI i).toNatClampNeg = i := nI_clamp (by omega)
    refine br_f (nI_ge (b := 9) (by omega) (by decide)) (And.intro hi (nm_r (e' := upd lo i (-1)) (by rw [hc]) (nm_r (nI_1 _) ?_)))
    refine qm_y167 K d (i + 1) (upd lo i (-1)) (by omega) (fun j hj => ?_)
    by_cases e : j = i
    · rw [e]; exact pk_us
    · rw [pk_un e]; exact h0 j (by omega)
end
theorem qm_vc0 (k0 k1 k2 : Int32) : wpX_init (fun u => wpY_init (fun v => qm_Rel u v) k0 k1 k2) k0 k1 k2 := by
  obtain ⟨H, hH1, hH3, wx1, wy1⟩ := qm_clamp (lo := 1) (hi := 3) (by decide) (by decide) k0
  obtain ⟨W, hW1, hW3, wx2, wy2⟩ := qm_clamp (lo := 1) (hi := 3) (by decide) (by decide) k1
  obtain ⟨T, hT1, hT9, wx3, wy3⟩ := qm_clamp (lo := 1) (hi := 999) (by decide) (by decide) k2
  unfold wpX_init
  refine wx1 _ ?_
  refine wx2 _ ?_
  refine nm_r (pk_mul H W) ?_
  refine wx3 _ ⟨H + 1, ?_⟩
  refine qm_i238 hW1 hW3 hH3 (fun qb hq => ⟨10, ?_⟩) H 0 _ (by omega) (fun n hn => by omega)
  refine qm_i350 (fun hk hhk => ⟨82, ?_⟩) 9 0 _ (by omega) (fun j hj => by omega)
  refine qm_i374 (fun ch ct hct => ⟨201, ?_⟩) 81 0 _ _ (by omega) (fun j hj => by omega)
  refine qm_i406 (fun ns ps nc hn1 hn2 => ?_) 200 0 _ _ _ (by omega) (fun j hj => by omega)
  unfold wpY_init
  refine wy1 _ ?_
  refine wy2 _ ?_
  refine nm_r (pk_mul H W) ?_
  refine wy3 _ ⟨10, ?_⟩
  refine qm_y167 (fun lo hlo => ?_) 9 0 _ (by omega) (fun j hj => by omega)
  exact qm_rel0 hH3 hW1 hW3 hT9 hq hhk hct hn1 hn2 hlo
end
section
/-! what is owed -/
def i_Rel (k : Nat) (u : SX) (v : SY) : Prop := qm_Rel u v
theorem qm_fin {k : Nat} {WX : (Int32 → SX → Prop) → Prop} {WY : (Int32 → SY → Prop) → Prop} (h : qm_BB WX WY) : WX (fun r u' => WY (fun r' v' => r' = r ∧ i_Rel (k + 3) u' v')) := by
  obtain ⟨r, u', v', hrel, wX, wY⟩ := h
  exact wX _ (wY _ ⟨rfl, hrel⟩)
theorem qm_fin0 {k : Nat} {u : SX} {v : SY} {WX WY : (Int32 → Prop) → Prop} (I : i_Rel k u v) (h : qm_B0 WX WY) : WX (fun r => WY (fun r' => r' = r ∧ i_Rel (k + 3) u v)) := by
  obtain ⟨r, wX, wY⟩ := h
  exact wX _ (wY _ ⟨rfl, I⟩)
theorem i_up {k : Nat} {u : SX} {v : SY} (h : i_Rel k u v) : i_Rel (k + 3) u v := h
theorem i_vc0 (k0 : Int32) (k1 : Int32) (k2 : Int32) : wpX_init (fun u => wpY_init (fun v => i_Rel 3 u v) k0 k1 k2) k0 k1 k2 := qm_vc0 k0 k1 k2
theorem i_vc_request {k : Nat} {u : SX} {v : SY} (I : i_Rel k u v) (hk : k + 3 ≤ 1539) (v1 : Int32) : wpX_request (fun r u' => wpY_request (fun r' v' => r' = r ∧ i_Rel (k + 3) u' v') v v1) u v1 := by
  refine qm_fin (WX := fun post => wpX_request post u v1) (WY := fun post => wpY_request post v v1) ?_
  refine qm_el (P := fun u v => qm_BB (fun post => wpX_request post u v1) (fun post => wpY_request post v v1)) ?_ I
  intro N W T sv cv sg w Q wn p y qb ph st ck hb rb lb en ov hk lk ll lw sd lo ls wt re hG hR hS hH hW hP
  exact qm_request hG hR hS hH hW hP v1
theorem i_vc_leave {k : Nat} {u : SX} {v : SY} (I : i_Rel k u v) (hk : k + 3 ≤ 1539) (v1 : Int32) : wpX_leave (fun r u' => wpY_leave (fun r' v' => r' = r ∧ i_Rel (k + 3) u' v') v v1) u v1 := by
  refine qm_fin (WX := fun post => wpX_leave post u v1) (WY := fun post => wpY_leave post v v1) ?_
  refine qm_el (P := fun u v => qm_BB (fun post => wpX_leave post u v1) (fun post => wpY_leave post v v1)) ?_ I
  intro N W T sv cv sg w Q wn p y qb ph st ck hb rb lb en ov hk lk ll lw sd lo ls wt re hG hR hS hH hW hP
  exact qm_leave hG hR hS hH hW hP v1
theorem i_vc_deliver {k : Nat} {u : SX} {v : SY} (I : i_Rel k u v) (hk : k + 3 ≤ 1539) (v1 : Int32) (v2 : Int32) : wpX_deliver (fun r u' => wpY_deliver (fun r' v' => r' = r ∧ i_Rel (k + 3) u' v') v v1 v2) u v1 v2 := by
  refine qm_fin (WX := fun post => wpX_deliver post u v1 v2) (WY := fun post => wpY_deliver post v v1 v2) ?_
  refine qm_el (P := fun u v => qm_BB (fun post => wpX_deliver post u v1 v2) (fun post => wpY_deliver post v v1 v2)) ?_ I
  intro N W T sv cv sg w Q wn p y qb ph st ck hb rb lb en ov hk lk ll lw sd lo ls wt re hG hR hS hH hW hP
  exact qm_deliver hG hR hS hH hW hP v1 v2
theorem i_vc_deliverOldest {k : Nat} {u : SX} {v : SY} (I : i_Rel k u v) (hk : k + 3 ≤ 1539) : wpX_deliverOldest (fun r u' => wpY_deliverOldest (fun r' v' => r' = r ∧ i_Rel (k + 3) u' v') v) u := by
  refine qm_fin (WX := fun post => wpX_deliverOldest post u) (WY := fun post => wpY_deliverOldest post v) ?_
  refine qm_el (P := fun u v => qm_BB (fun post => wpX_deliverOldest post u) (fun post => wpY_deliverOldest post v)) ?_ I
  intro N W T sv cv sg w Q wn p y qb ph st ck hb rb lb en ov hk lk ll lw sd lo ls wt re hG hR hS hH hW hP
  exact qm_deliverOldest hG hR hS hH hW hP
theorem i_vc_deliverNewest {k : Nat} {u : SX} {v : SY} (I : i_Rel k u v) (hk : k + 3 ≤ 1539) : wpX_deliverNewest (fun r u' => wpY_deliverNewest (fun r' v' => r' = r ∧ i_Rel (k + 3) u' v') v) u := by
  refine qm_fin (WX := fun post => wpX_deliverNewest post u) (WY := fun post => wpY_deliverNewest post v) ?_
  refine qm_el (P := fun u v => qm_BB (fun post => wpX_deliverNewest post u) (fun post => wpY_deliverNewest post v)) ?_ I
  intro N W T sv cv sg w Q wn p y qb ph st ck hb rb lb en ov hk lk ll lw sd lo ls wt re hG hR hS hH hW hP
  exact qm_deliverNewest hG hR hS hH hW hP
theorem i_vc_deliverKind {k : Nat} {u : SX} {v : SY} (I : i_Rel k u v) (hk : k + 3 ≤ 1539) (v1 : Int32) : wpX_deliverKind (fun r u' => wpY_deliverKind (fun r' v' => r' = r ∧ i_Rel (k + 3) u' v') v v1) u v1 := by
  refine qm_fin (WX := fun post => wpX_deliverKind post u v1) (WY := fun post => wpY_deliverKind post v v1) ?_
  refine qm_el (P := fun u v => qm_BB (fun post => wpX_deliverKind post u v1) (fun post => wpY_deliverKind post v v1)) ?_ I
  intro N W T sv cv sg w Q wn p y qb ph st ck hb rb lb en ov hk lk ll lw sd lo ls wt re hG hR hS hH hW hP
  exact qm_deliverKind hG hR hS hH hW hP v1
theorem i_vc_deliverPick {k : Nat} {u : SX} {v : SY} (I : i_Rel k u v) (hk : k + 3 ≤ 1539) (v1 : Int32) : wpX_deliverPick (fun r u' => wpY_deliverPick (fun r' v' => r' = r ∧ i_Rel (k + 3) u' v') v v1) u v1 := by
  refine qm_fin (WX := fun post => wpX_deliverPick post u v1) (WY := fun post => wpY_deliverPick post v v1) ?_
  refine qm_el (P := fun u v => qm_BB (fun post => wpX_deliverPick post u v1) (fun post => wpY_deliverPick post v v1)) ?_ I
  intro N W T sv cv sg w Q wn p y qb ph st ck hb rb lb en ov hk lk ll lw sd lo ls wt re hG hR hS hH hW hP
  exact qm_deliverPick hG hR hS hH hW hP v1
theorem i_vc_run {k : Nat} {u : SX} {v : SY} (I : i_Rel k u v) (hk : k + 3 ≤ 1539) (v1 : Int32) : wpX_run (fun r u' => wpY_run (fun r' v' => r' = r ∧ i_Rel (k + 3) u' v') v v1) u v1 := qm_fin (WX := fun post => wpX_run post u v1) (WY := fun post => wpY_run post v v1) (qm_run I v1)
theorem i_vc_phase {k : Nat} {u : SX} {v : SY} (I : i_Rel k u v) (hk : k + 3 ≤ 1539) (v1 : Int32) : wpX_phase (fun r => wpY_phase (fun r' => r' = r ∧ i_Rel (k + 3) u v) v v1) u v1 := by
  refine qm_fin0 (WX := fun post => wpX_phase post u v1) (WY := fun post => wpY_phase post v v1) I ?_
  refine qm_el (P := fun u v => qm_B0 (fun post => wpX_phase post u v1) (fun post => wpY_phase post v v1)) ?_ I
  intro N W T sv cv sg w Q wn p y qb ph st ck hb rb lb en ov hk lk ll lw sd lo ls wt re hG hR hS hH hW hP
  exact qm_phase hG v1
theorem i_vc_stamp {k : Nat} {u : SX} {v : SY} (I : i_Rel k u v) (hk : k + 3 ≤ 1539) (v1 : Int32) : wpX_stamp (fun r => wpY_stamp (fun r' => r' = r ∧ i_Rel (k + 3) u v) v v1) u v1 := by
  refine qm_fin0 (WX := fun post => wpX_stamp post u v1) (WY := fun post => wpY_stamp post v v1) I ?_
  refine qm_el (P := fun u v => qm_B0 (fun post => wpX_stamp post u v1) (fun post => wpY_stamp post v v1)) ?_ I
  intro N W T sv cv sg w Q wn p y qb ph st ck hb rb lb en ov hk lk ll lw sd lo ls wt re hG hR hS hH hW hP
  exact qm_stamp hG v1
theorem i_vc_clock {k : Nat} {u : SX} {v : SY} (I : i_Rel k u v) (hk : k + 3 ≤ 1539) (v1 : Int32) : wpX_clock (fun r => wpY_clock (fun r' => r' = r ∧ i_Rel (k + 3) u v) v v1) u v1 := by
  refine qm_fin0 (WX := fun post => wpX_clock post u v1) (WY := fun post => wpY_clock post v v1) I ?_
  refine qm_el (P := fun u v => qm_B0 (fun post => wpX_clock post u v1) (fun post => wpY_clock post v v1)) ?_ I
  intro N W T sv cv sg w Q wn p y qb ph st ck hb rb lb en ov hk lk ll lw sd lo ls wt re hG hR hS hH hW hP
  exact qm_clock hG v1
theorem i_vc_standing {k : Nat} {u : SX} {v : SY} (I : i_Rel k u v) (hk : k + 3 ≤ 1539) (v1 : Int32) (v2 : Int32) : wpX_standing (fun r => wpY_standing (fun r' => r' = r ∧ i_Rel (k + 3) u v) v v1 v2) u v1 v2 := by
  refine qm_fin0 (WX := fun post => wpX_standing post u v1 v2) (WY := fun post => wpY_standing post v v1 v2) I ?_
  refine qm_el (P := fun u v => qm_B0 (fun post => wpX_standing post u v1 v2) (fun post => wpY_standing post v v1 v2)) ?_ I
  intro N W T sv cv sg w Q wn p y qb ph st ck hb rb lb en ov hk lk ll lw sd lo ls wt re hG hR hS hH hW hP
  exact qm_standing hG hS v1 v2
theorem i_vc_holder {k : Nat} {u : SX} {v : SY} (I : i_Rel k u v) (hk : k + 3 ≤ 1539) (v1 : Int32) : wpX_holder (fun r => wpY_holder (fun r' => r' = r ∧ i_Rel (k + 3) u v) v v1) u v1 := by
  refine qm_fin0 (WX := fun post => wpX_holder post u v1) (WY := fun post => wpY_holder post v v1) I ?_
  refine qm_el (P := fun u v => qm_B0 (fun post => wpX_holder post u v1) (fun post => wpY_holder post v v1)) ?_ I
  intro N W T sv cv sg w Q wn p y qb ph st ck hb rb lb en ov hk lk ll lw sd lo ls wt re hG hR hS hH hW hP
  exact qm_holder hG hH v1
theorem i_vc_holderStamp {k : Nat} {u : SX} {v : SY} (I : i_Rel k u v) (hk : k + 3 ≤ 1539) (v1 : Int32) : wpX_holderStamp (fun r => wpY_holderStamp (fun r' => r' = r ∧ i_Rel (k + 3) u v) v v1) u v1 := by
  refine qm_fin0 (WX := fun post => wpX_holderStamp post u v1) (WY := fun post => wpY_holderStamp post v v1) I ?_
  refine qm_el (P := fun u v => qm_B0 (fun post => wpX_holderStamp post u v1) (fun post => wpY_holderStamp post v v1)) ?_ I
  intro N W T sv cv sg w Q wn p y qb ph st ck hb rb lb en ov hk lk ll lw sd lo ls wt re hG hR hS hH hW hP
  exact qm_holderStamp hG hH v1
theorem i_vc_queueAt {k : Nat} {u : SX} {v : SY} (I : i_Rel k u v) (hk : k + 3 ≤ 1539) (v1 : Int32) (v2 : Int32) : wpX_queueAt (fun r => wpY_queueAt (fun r' => r' = r ∧ i_Rel (k + 3) u v) v v1 v2) u v1 v2 := by
  refine qm_fin0 (WX := fun post => wpX_queueAt post u v1 v2) (WY := fun post => wpY_queueAt post v v1 v2) I ?_
  refine qm_el (P := fun u v => qm_B0 (fun post => wpX_queueAt post u v1 v2) (fun post => wpY_queueAt post v v1 v2)) ?_ I
  intro N W T sv cv sg w Q wn p y qb ph st ck hb rb lb en ov hk lk ll lw sd lo ls wt re hG hR hS hH hW hP
  exact qm_queueAt hG hW v1 v2
theorem i_vc_blocked {k : Nat} {u : SX} {v : SY} (I : i_Rel k u v) (hk : k + 3 ≤ 1539) (v1 : Int32) (v2 : Int32) : wpX_blocked (fun r => wpY_blocked (fun r' v' => r' = r ∧ i_Rel (k + 3) u v') v v1 v2) u v1 v2 := by
  refine qm_el (P := fun u v => wpX_blocked (fun r => wpY_blocked (fun r' v' => r' = r ∧ i_Rel (k + 3) u v') v v1 v2) u v1 v2) ?_ I
  intro N W T sv cv sg w Q wn p y qb ph st ck hb rb lb en ov hk lk ll lw sd lo ls wt re hG hR hS hH hW hP
  obtain ⟨r, wX, wY⟩ := qm_blocked (en := en) (ov := ov) (re := re) hG hR hS hH hW hP v1 v2
  exact wX _ (wY _ (fun v' hrel => ⟨rfl, hrel⟩))
theorem i_vc_rank {k : Nat} {u : SX} {v : SY} (I : i_Rel k u v) (hk : k + 3 ≤ 1539) (v1 : Int32) : wpX_rank (fun r => wpY_rank (fun r' => r' = r ∧ i_Rel (k + 3) u v) v v1) u v1 := by
  refine qm_fin0 (WX := fun post => wpX_rank post u v1) (WY := fun post => wpY_rank post v v1) I ?_
  refine qm_el (P := fun u v => qm_B0 (fun post => wpX_rank post u v1) (fun post => wpY_rank post v v1)) ?_ I
  intro N W T sv cv sg w Q wn p y qb ph st ck hb rb lb en ov hk lk ll lw sd lo ls wt re hG hR hS hH hW hP
  exact qm_rank hG hR v1
theorem i_vc_overtaken {k : Nat} {u : SX} {v : SY} (I : i_Rel k u v) (hk : k + 3 ≤ 1539) (v1 : Int32) : wpX_overtaken (fun r => wpY_overtaken (fun r' => r' = r ∧ i_Rel (k + 3) u v) v v1) u v1 := by
  refine qm_fin0 (WX := fun post => wpX_overtaken post u v1) (WY := fun post => wpY_overtaken post v v1) I ?_
  refine qm_el (P := fun u v => qm_B0 (fun post => wpX_overtaken post u v1) (fun post => wpY_overtaken post v v1)) ?_ I
  intro N W T sv cv sg w Q wn p y qb ph st ck hb rb lb en ov hk lk ll lw sd lo ls wt re hG hR hS hH hW hP
  exact qm_overtaken hG v1
theorem i_vc_entries {k : Nat} {u : SX} {v : SY} (I : i_Rel k u v) (hk : k + 3 ≤ 1539) (v1 : Int32) : wpX_entries (fun r => wpY_entries (fun r' => r' = r ∧ i_Rel (k + 3) u v) v v1) u v1 := by
  refine qm_fin0 (WX := fun post => wpX_entries post u v1) (WY := fun post => wpY_entries post v v1) I ?_
  refine qm_el (P := fun u v => qm_B0 (fun post => wpX_entries post u v1) (fun post => wpY_entries post v v1)) ?_ I
  intro N W T sv cv sg w Q wn p y qb ph st ck hb rb lb en ov hk lk ll lw sd lo ls wt re hG hR hS hH hW hP
  exact qm_entries hG v1
theorem i_vc_inFlight {k : Nat} {u : SX} {v : SY} (I : i_Rel k u v) (hk : k + 3 ≤ 1539) : wpX_inFlight (fun r => wpY_inFlight (fun r' => r' = r ∧ i_Rel (k + 3) u v) v) u := by
  refine qm_fin0 (WX := fun post => wpX_inFlight post u) (WY := fun post => wpY_inFlight post v) I ?_
  refine qm_el (P := fun u v => qm_B0 (fun post => wpX_inFlight post u) (fun post => wpY_inFlight post v)) ?_ I
  intro N W T sv cv sg w Q wn p y qb ph st ck hb rb lb en ov hk lk ll lw sd lo ls wt re hG hR hS hH hW hP
  exact qm_inFlight hP
theorem i_vc_channelLength {k : Nat} {u : SX} {v : SY} (I : i_Rel k u v) (hk : k + 3 ≤ 1539) (v1 : Int32) (v2 : Int32) : wpX_channelLength (fun r => wpY_channelLength (fun r' => r' = r ∧ i_Rel (k + 3) u v) v v1 v2) u v1 v2 := by
  refine qm_fin0 (WX := fun post => wpX_channelLength post u v1 v2) (WY := fun post => wpY_channelLength post v v1 v2) I ?_
  refine qm_el (P := fun u v => qm_B0 (fun post => wpX_channelLength post u v1 v2) (fun post => wpY_channelLength post v v1 v2)) ?_ I
  intro N W T sv cv sg w Q wn p y qb ph st ck hb rb lb en ov hk lk ll lw sd lo ls wt re hG hR hS hH hW hP
  exact qm_channelLength hG hP v1 v2
theorem i_vc_flight {k : Nat} {u : SX} {v : SY} (I : i_Rel k u v) (hk : k + 3 ≤ 1539) (v1 : Int32) (v2 : Int32) : wpX_flight (fun r => wpY_flight (fun r' => r' = r ∧ i_Rel (k + 3) u v) v v1 v2) u v1 v2 := by
  refine qm_fin0 (WX := fun post => wpX_flight post u v1 v2) (WY := fun post => wpY_flight post v v1 v2) I ?_
  refine qm_el (P := fun u v => qm_B0 (fun post => wpX_flight post u v1 v2) (fun post => wpY_flight post v v1 v2)) ?_ I
  intro N W T sv cv sg w Q wn p y qb ph st ck hb rb lb en ov hk lk ll lw sd lo ls wt re hG hR hS hH hW hP
  exact qm_flight hP v1 v2
end
