section
/-! sets of states as words: one bit, the fold that sets bits, the count of bits -/
def gc_b (k : Nat) : Int64 := (1 : Int64) <<< ((nI k).toInt64 &&& 63)
def gc_t (x : Int64) (j : Nat) : Bool := x.toBitVec.getLsbD j
def gc_e : Option Nat → Int64
  | none => 0
  | some t => gc_b t
def gc_s (P : Nat → Bool) : Nat → Int64
  | 0 => 0
  | k + 1 => if P k then gc_s P k ||| gc_b k else gc_s P k
def gc_i (f : Nat → Int64) (q : Int64) : Nat → Int64
  | 0 => 0
  | k + 1 => if gc_t q k then gc_i f q k ||| f k else gc_i f q k
def gc_c (x : Int64) : Nat → Nat
  | 0 => 0
  | k + 1 => gc_c x k + (if gc_t x k then 1 else 0)
def gc_any (P : Nat → Bool) : Nat → Bool
  | 0 => false
  | k + 1 => gc_any P k || P k
theorem gc_ext {x y : Int64} (h : ∀ i, i < 64 → gc_t x i = gc_t y i) : x = y := Int64.toBitVec_inj.mp (BitVec.eq_of_getLsbD_eq (fun i hi => h i hi))
theorem gc_t_or (x y : Int64) (i : Nat) : gc_t (x ||| y) i = (gc_t x i || gc_t y i) := by unfold gc_t; rw [Int64.toBitVec_or, BitVec.getLsbD_or]
theorem gc_t_and (x y : Int64) (i : Nat) : gc_t (x &&& y) i = (gc_t x i && gc_t y i) := by unfold gc_t; rw [Int64.toBitVec_and, BitVec.getLsbD_and]
theorem gc_t_0 (i : Nat) : gc_t 0 i = false := BitVec.getLsbD_zero
theorem gc_m1 : (-1 : Int64).toBitVec = BitVec.allOnes 64 := by decide
theorem gc_t_not (x : Int64) {i : Nat} (hi : i < 64) : gc_t (x ^^^ (-1)) i = !gc_t x i := by
  unfold gc_t
  rw [Int64.toBitVec_xor, gc_m1, BitVec.getLsbD_xor, BitVec.getLsbD_allOnes]
  simp [hi]
theorem gc_tp : ∀ k, k < 64 → (gc_b k).toBitVec = BitVec.twoPow 64 k := by decide +kernel
theorem gc_t_b {k j : Nat} (hk : k < 64) : gc_t (gc_b k) j = decide (k = j) := by
  unfold gc_t
  rw [gc_tp k hk, BitVec.getLsbD_twoPow]
  simp [hk]
theorem gc_or0 (x : Int64) : x ||| 0 = x := gc_ext (fun i _ => by rw [gc_t_or, gc_t_0, Bool.or_false])
theorem gc_and_c (x y : Int64) : x &&& y = y &&& x := gc_ext (fun i _ => by rw [gc_t_and, gc_t_and, Bool.and_comm])
theorem gc_and1 (y : Int64) : y &&& 1 = if gc_t y 0 then 1 else 0 := by
  apply Int64.toBitVec_inj.mp
  rw [Int64.toBitVec_and]
  show y.toBitVec &&& 1#64 = _
  rw [BitVec.and_one_eq_setWidth_ofBool_getLsbD]
  unfold gc_t
  cases y.toBitVec.getLsbD 0 <;> decide
theorem gc_and1i (y : Int64) : y.toInt32 &&& 1 = if gc_t y 0 then 1 else 0 := by
  apply Int32.toBitVec_inj.mp
  rw [Int32.toBitVec_and, Int64.toBitVec_toInt32]
  show y.toBitVec.signExtend 32 &&& 1#32 = _
  rw [BitVec.and_one_eq_setWidth_ofBool_getLsbD, BitVec.getLsbD_signExtend, if_pos (by decide)]
  unfold gc_t
  cases y.toBitVec.getLsbD 0 <;> decide
theorem gc_cu : ∀ k, k < 64 → ((nI k).toInt64.toUInt64 &&& Int64.toUInt64 63).toNat = k := by decide +kernel
theorem gc_cs : ∀ k, k < 64 → (((nI k).toInt64 &&& 63).toBitVec.smod 64).toNat = k := by decide +kernel
theorem gc_ush (x : Int64) {k : Nat} (hk : k < 64) : gc_t ((x.toUInt64 >>> ((nI k).toInt64.toUInt64 &&& Int64.toUInt64 63)).toInt64) 0 = gc_t x k := by
  have e : (x.toUInt64 >>> ((nI k).toInt64.toUInt64 &&& Int64.toUInt64 63)).toInt64.toBitVec = x.toBitVec >>> k := by
    apply BitVec.eq_of_toNat_eq
    show (x.toUInt64 >>> ((nI k).toInt64.toUInt64 &&& Int64.toUInt64 63)).toNat = _
    rw [UInt64.toNat_shiftRight, gc_cu k hk, Nat.mod_eq_of_lt hk, BitVec.toNat_ushiftRight]
    rfl
  unfold gc_t
  rw [e, BitVec.getLsbD_ushiftRight, Nat.add_zero]
theorem gc_shr (x : Int64) {k : Nat} (hk : k < 64) : gc_t (x >>> ((nI k).toInt64 &&& 63)) 0 = gc_t x k := by
  unfold gc_t
  rw [Int64.toBitVec_shiftRight]
  show (x.toBitVec.sshiftRight (((nI k).toInt64 &&& 63).toBitVec.smod 64).toNat).getLsbD 0 = _
  rw [gc_cs k hk, BitVec.getLsbD_sshiftRight, Nat.add_zero, if_pos hk]
  simp
theorem gc_hu (x : Int64) {k : Nat} (hk : k < 64) : ((x.toUInt64 >>> ((nI k).toInt64.toUInt64 &&& Int64.toUInt64 63)).toInt64 &&& 1) = 1 ↔ gc_t x k = true := by
  rw [gc_and1, gc_ush x hk]
  cases gc_t x k
  · exact ⟨fun z => absurd z (by decide), fun z => absurd z (by decide)⟩
  · exact ⟨fun _ => rfl, fun _ => rfl⟩
theorem gc_hs (x : Int64) {k : Nat} (hk : k < 64) : ((x >>> ((nI k).toInt64 &&& 63)) &&& 1) = 1 ↔ gc_t x k = true := by
  rw [gc_and1, gc_shr x hk]
  cases gc_t x k
  · exact ⟨fun z => absurd z (by decide), fun z => absurd z (by decide)⟩
  · exact ⟨fun _ => rfl, fun _ => rfl⟩
theorem gc_ou (x : Int64) {k : Nat} (hk : k < 64) : ((x.toUInt64 >>> ((nI k).toInt64.toUInt64 &&& Int64.toUInt64 63)).toInt64 &&& 1).toInt32 = nI (if gc_t x k then 1 else 0) := by
  rw [gc_and1, gc_ush x hk]
  cases gc_t x k <;> decide
theorem gc_os (x : Int64) {k : Nat} (hk : k < 64) : (x >>> ((nI k).toInt64 &&& 63)).toInt32 &&& 1 = nI (if gc_t x k then 1 else 0) := by
  rw [gc_and1i, gc_shr x hk]
  cases gc_t x k <;> decide
/-! the folds -/
theorem gc_s_t (P : Nat → Bool) : ∀ k, k ≤ 64 → ∀ j, gc_t (gc_s P k) j = (decide (j < k) && P j) := by
  intro k
  induction k with
  | zero => intro _ j; simp [gc_s, gc_t_0]
  | succ k ih =>
    intro hk j
    have h := ih (by omega) j
    show gc_t (if P k then gc_s P k ||| gc_b k else gc_s P k) j = _
    by_cases e : k = j
    · subst e
      cases hp : P k
      · simp [h, hp]
      · simp [gc_t_or, gc_t_b (show k < 64 by omega)]
    · have e1 : decide (j < k + 1) = decide (j < k) := by
        apply decide_eq_decide.mpr
        omega
      rw [e1, ← h]
      cases hp : P k
      · simp
      · simp [gc_t_or, gc_t_b (show k < 64 by omega), e]
theorem gc_s_c {P Q : Nat → Bool} : ∀ k, (∀ j, j < k → P j = Q j) → gc_s P k = gc_s Q k := by
  intro k
  induction k with
  | zero => intro _; rfl
  | succ k ih =>
    intro h
    show (if P k then gc_s P k ||| gc_b k else gc_s P k) = (if Q k then gc_s Q k ||| gc_b k else gc_s Q k)
    rw [ih (fun j hj => h j (by omega)), h k (by omega)]
theorem gc_s_pos {P : Nat → Bool} {k : Nat} (h : P k = true) : gc_s P (k + 1) = gc_s P k ||| gc_b k := if_pos h
theorem gc_s_neg {P : Nat → Bool} {k : Nat} (h : P k = false) : gc_s P (k + 1) = gc_s P k := if_neg (by rw [h]; decide)
theorem gc_i_pos {f : Nat → Int64} {q : Int64} {k : Nat} (h : gc_t q k = true) : gc_i f q (k + 1) = gc_i f q k ||| f k := if_pos h
theorem gc_i_neg {f : Nat → Int64} {q : Int64} {k : Nat} (h : gc_t q k = false) : gc_i f q (k + 1) = gc_i f q k := if_neg (by rw [h]; decide)
theorem gc_i_c {f g : Nat → Int64} {q : Int64} : ∀ k, (∀ j, j < k → f j = g j) → gc_i f q k = gc_i g q k := by
  intro k
  induction k with
  | zero => intro _; rfl
  | succ k ih =>
    intro h
    show (if gc_t q k then gc_i f q k ||| f k else gc_i f q k) = (if gc_t q k then gc_i g q k ||| g k else gc_i g q k)
    rw [ih (fun j hj => h j (by omega)), h k (by omega)]
theorem gc_i_0 {f : Nat → Int64} : ∀ k, gc_i f 0 k = 0 := by
  intro k
  induction k with
  | zero => rfl
  | succ k ih => rw [gc_i_neg (gc_t_0 k), ih]
theorem gc_i_b {f : Nat → Int64} {t : Nat} (ht : t < 64) : ∀ k, gc_i f (gc_b t) k = if t < k then f t else 0 := by
  intro k
  induction k with
  | zero => rfl
  | succ k ih =>
    by_cases e : t = k
    · subst e
      rw [gc_i_pos (by rw [gc_t_b ht]; exact decide_eq_true rfl), ih, if_neg (by omega), if_pos (by omega)]
      exact gc_ext (fun i _ => by rw [gc_t_or, gc_t_0, Bool.false_or])
    · rw [gc_i_neg (by rw [gc_t_b ht]; exact decide_eq_false e), ih]
      by_cases h : t < k
      · rw [if_pos h, if_pos (by omega)]
      · rw [if_neg h, if_neg (by omega)]
theorem gc_b_ne {k : Nat} (hk : k < 64) (x : Int64) : ¬ x ||| gc_b k = 0 := by
  intro h
  have e := congrArg (fun y => gc_t y k) h
  simp [gc_t_or, gc_t_0, gc_t_b hk] at e
theorem gc_s_any {P : Nat → Bool} : ∀ k, k ≤ 64 → (gc_s P k = 0 ↔ gc_any P k = false) := by
  intro k
  induction k with
  | zero => intro _; exact ⟨fun _ => rfl, fun _ => rfl⟩
  | succ k ih =>
    intro hk
    have h := ih (by omega)
    show _ ↔ (gc_any P k || P k) = false
    cases hp : P k
    · rw [gc_s_neg hp, Bool.or_false]; exact h
    · rw [gc_s_pos hp, Bool.or_true]
      exact ⟨fun z => absurd z (gc_b_ne (by omega) _), fun z => absurd z (by decide)⟩
theorem gc_c_0 : ∀ k, gc_c 0 k = 0 := by
  intro k
  induction k with
  | zero => rfl
  | succ k ih =>
    show gc_c 0 k + (if gc_t 0 k then 1 else 0) = 0
    rw [ih, gc_t_0]; rfl
theorem gc_c_b {t : Nat} (ht : t < 64) : ∀ k, gc_c (gc_b t) k = if t < k then 1 else 0 := by
  intro k
  induction k with
  | zero => rfl
  | succ k ih =>
    show gc_c (gc_b t) k + (if gc_t (gc_b t) k then 1 else 0) = _
    rw [ih, gc_t_b ht]
    by_cases e : t = k
    · subst e; simp
    · have e2 : (t < k + 1) = (t < k) := by apply propext; omega
      simp [e, e2]
theorem gc_c_le (x : Int64) : ∀ k, gc_c x k ≤ k := by
  intro k
  induction k with
  | zero => exact Nat.le_refl 0
  | succ k ih =>
    show gc_c x k + (if gc_t x k then 1 else 0) ≤ k + 1
    split <;> omega
theorem gc_s_all : gc_s (fun _ => true) 64 = -1 := by decide +kernel
theorem gc_s_none : ∀ k, gc_s (fun _ => false) k = 0 := by
  intro k
  induction k with
  | zero => rfl
  | succ k ih => rw [gc_s_neg rfl, ih]
theorem gc_b1 : ∀ t, t < 64 → gc_b t &&& (gc_b t - 1) = 0 := by decide +kernel
theorem gc_set {r : Option Nat} (h : ∀ t, r = some t → t < 64) : gc_e r &&& (gc_e r - 1) = 0 := by
  cases r with
  | none => decide
  | some t => exact gc_b1 t (h t rfl)
theorem gc_e_c {r : Option Nat} (h : ∀ t, r = some t → t < 64) : gc_c (gc_e r) 64 = if r.isSome then 1 else 0 := by
  cases r with
  | none => exact gc_c_0 64
  | some t => exact (gc_c_b (h t rfl) 64).trans (by rw [if_pos (h t rfl)]; rfl)
theorem gc_bn {t : Nat} (ht : t < 64) (q : Int64) : gc_b t &&& (q ^^^ (-1)) = 0 ↔ gc_t q t = true := by
  constructor
  · intro h
    have e := congrArg (fun y => gc_t y t) h
    simp only [gc_t_and, gc_t_0, gc_t_b ht, gc_t_not q ht] at e
    simpa using e
  · intro h
    apply gc_ext
    intro i hi
    rw [gc_t_and, gc_t_0, gc_t_b ht, gc_t_not q hi]
    by_cases e : t = i
    · subst e; simp [h]
    · simp [e]
/-! fields of an int, in naturals -/
theorem gc_sl : ∀ n, n < 32 → ((nI n &&& 31).toBitVec.smod 32).toNat = n := by decide +kernel
theorem gc_fld (x : Int32) (n k : Nat) {m : Int32} (hm : m.toBitVec.toNat = 2 ^ k - 1) (hn : n < 32) (h : n + k ≤ 32) : (x >>> (nI n &&& 31)) &&& m = nI (x.toBitVec.toNat / 2 ^ n % 2 ^ k) := by
  rw [pk_and _ k hm]
  congr 1
  apply Nat.eq_of_testBit_eq
  intro i
  rw [Nat.testBit_mod_two_pow, Nat.testBit_mod_two_pow, Nat.testBit_div_two_pow, BitVec.testBit_toNat, BitVec.testBit_toNat]
  by_cases hi : i < k
  · rw [Int32.toBitVec_shiftRight]
    show (_ && (x.toBitVec.sshiftRight ((nI n &&& 31).toBitVec.smod 32).toNat).getLsbD i) = _
    rw [gc_sl n hn, BitVec.getLsbD_sshiftRight, if_pos (show n + i < 32 by omega)]
    simp [show ¬ 32 ≤ i by omega, Nat.add_comm]
  · simp [hi]
theorem gc_f3 (x : Int32) : (x >>> ((3 : Int32) &&& 31)) &&& 7 = nI (x.toBitVec.toNat / 8 % 8) := gc_fld x 3 3 (by decide) (by decide) (by decide)
theorem gc_f4 (x : Int32) : (x >>> ((4 : Int32) &&& 31)) &&& 7 = nI (x.toBitVec.toNat / 16 % 8) := gc_fld x 4 3 (by decide) (by decide) (by decide)
theorem gc_f6 (x : Int32) : (x >>> ((6 : Int32) &&& 31)) &&& 7 = nI (x.toBitVec.toNat / 64 % 8) := gc_fld x 6 3 (by decide) (by decide) (by decide)
theorem gc_f7 (x : Int32) : (x >>> ((7 : Int32) &&& 31)) &&& 7 = nI (x.toBitVec.toNat / 128 % 8) := gc_fld x 7 3 (by decide) (by decide) (by decide)
theorem gc_f9 (x : Int32) : (x >>> ((9 : Int32) &&& 31)) &&& 7 = nI (x.toBitVec.toNat / 512 % 8) := gc_fld x 9 3 (by decide) (by decide) (by decide)
theorem gc_f9' (x : Int32) : (x >>> ((9 : Int32) &&& 31)) &&& 1 = nI (x.toBitVec.toNat / 512 % 2) := gc_fld x 9 1 (by decide) (by decide) (by decide)
theorem gc_f10 (x : Int32) : (x >>> ((10 : Int32) &&& 31)) &&& 1 = nI (x.toBitVec.toNat / 1024 % 2) := gc_fld x 10 1 (by decide) (by decide) (by decide)
theorem gc_f12 (x : Int32) : (x >>> ((12 : Int32) &&& 31)) &&& 7 = nI (x.toBitVec.toNat / 4096 % 8) := gc_fld x 12 3 (by decide) (by decide) (by decide)
theorem gc_m7 (x : Int32) : x &&& 7 = nI (x.toBitVec.toNat % 8) := pk_and x 3 (by decide)
theorem gc_m15 (x : Int32) : x &&& 15 = nI (x.toBitVec.toNat % 16) := pk_and x 4 (by decide)
theorem gc_m511 (x : Int32) : x &&& 511 = nI (x.toBitVec.toNat % 512) := pk_and x 9 (by decide)
theorem gc_m1023 (x : Int32) : x &&& 1023 = nI (x.toBitVec.toNat % 1024) := pk_and x 10 (by decide)
/-! what a form is worth in a state -/
def gc_v (u s : Nat) : Nat := ((u / 64 % 8) * (s / 8) + (u / 8 % 8) * (s % 8) + u % 8) % 8
theorem gc_v_lt (u s : Nat) : gc_v u s < 8 := Nat.mod_lt _ (by decide)
theorem gc_v_m {u w s : Nat} (h : u % 512 = w % 512) : gc_v u s = gc_v w s := by
  unfold gc_v
  rw [show u / 64 % 8 = w / 64 % 8 by omega, show u / 8 % 8 = w / 8 % 8 by omega, show u % 8 = w % 8 by omega]
theorem gc_s8 : ∀ s, s < 64 → nI s >>> ((3 : Int32) &&& 31) = nI (s / 8) := by decide +kernel
theorem gc_s7 : ∀ s, s < 64 → nI s &&& 7 = nI (s % 8) := by decide +kernel
theorem gc_s56 : ∀ s, s < 64 → nI s &&& 56 = nI (s / 8 * 8) := by decide +kernel
theorem gc_bd {a b c d e : Nat} (ha : a < 8) (hb : b < 8) (hc : c < 8) (hd : d < 8) (he : e < 8) : a * b + c * d + e < 2 ^ 32 := by
  have h1 : a * b ≤ 7 * 7 := Nat.mul_le_mul (by omega) (by omega)
  have h2 : c * d ≤ 7 * 7 := Nat.mul_le_mul (by omega) (by omega)
  omega
theorem gc_worth (d : Int32) {s : Nat} (hs : s < 64) : ((((((d >>> ((6 : Int32) &&& 31)) &&& 7) * (nI s >>> ((3 : Int32) &&& 31))) + (((d >>> ((3 : Int32) &&& 31)) &&& 7) * (nI s &&& 7))) + (d &&& 7)) &&& 7) = nI (gc_v d.toBitVec.toNat s) := by
  rw [gc_f6, gc_f3, gc_m7 d, gc_s8 s hs, gc_s7 s hs, pk_mul, pk_mul, nI_add, nI_add, pk_andN (gc_bd (by omega) (by omega) (by omega) (by omega) (by omega)) 3 (by decide)]
  rfl
theorem gc_wL {post : Int32 → Prop} {d : Int32} {s : Nat} (hs : s < 64) (h : post (nI (gc_v d.toBitVec.toNat s))) : wpL_worth post () d (nI s) := by
  unfold wpL_worth
  rw [gc_worth d hs]
  exact h
theorem gc_fX {post : Int32 → Prop} {f s : Nat} (hf : f < 512) (hs : s < 64) (h : post (nI (gc_v f s))) : wpX_formValue post () (nI f) (nI s) := by
  refine nm_r (pk_shrN (show f < 2 ^ 31 by omega) _ 6 (by decide)) (nm_r (gc_f3 (nI f)) (nm_r (gc_m7 (nI f)) ?_))
  rw [gc_s8 s hs, gc_s7 s hs, pk_tn (show f < 2 ^ 32 by omega), pk_mul, pk_mul, nI_add, nI_add, pk_andN (gc_bd (show f / 2 ^ 6 < 8 by omega) (by omega) (by omega) (by omega) (by omega)) 3 (by decide)]
  have e : gc_v f s = ((f / 2 ^ 6) * (s / 8) + (f / 8 % 8) * (s % 8) + f % 8) % 2 ^ 3 := by
    unfold gc_v
    rw [show f / 64 % 8 = f / 2 ^ 6 by omega]
  rw [← e]
  exact h
end
section
/-! the walks of the methods that only read -/
theorem gc_ix (p i : Nat) : (64 : Int32) * nI p + nI i = nI (64 * p + i) := by
  show nI 64 * nI p + nI i = _
  rw [pk_mul, nI_add]
theorem gc_cl {p i : Nat} (hp : p < 30) (hi : i < 64) : ((64 : Int32) * nI p + nI i).toNatClampNeg = 64 * p + i := pk_cl _ (gc_ix p i)
theorem gc_has {post : Int32 → Prop} {x : Int64} {s : Nat} (hs : s < 64) (h1 : gc_t x s = true → post 1) (h0 : gc_t x s = false → post 0) : wpX_has post () x (nI s) :=
  br_c (fun z => h1 ((gc_hu x hs).mp z)) (fun z => h0 (Bool.eq_false_iff.mpr (fun e => z ((gc_hu x hs).mpr e))))
theorem gc_oX {post : Int32 → Prop} {x : Int64} (h : post (nI (gc_c x 64))) : wpX_ones post () x :=
  pk_loop (fun n i s => wX_ones_4 post x n s (nI i)) (fun i s => s = nI (gc_c x i)) 64 0 (0 : Int32) (by omega) rfl
    (fun n s (hs : s = nI (gc_c x 64)) => by subst hs; exact pk_le 64 64 (fun _ => h) (fun z => absurd z (by omega)))
    (fun n i s hi (hs : s = nI (gc_c x i)) hw => by
      subst hs
      have e : nI (gc_c x i) + ((x.toUInt64 >>> ((nI i).toInt64.toUInt64 &&& Int64.toUInt64 63)).toInt64 &&& 1).toInt32 = nI (gc_c x (i + 1)) := by rw [gc_ou x hi, nI_add]; rfl
      exact pk_le 64 i (fun z => absurd z (by omega)) (fun _ => nm_r e (nm_r (nI_1 i) (hw _ rfl))))
theorem gc_oL {post : Int32 → Prop} {x : Int64} (h : post (nI (gc_c x 64))) : wpL_ones post () x :=
  pk_loop (fun n i s => wL_ones_4 post x n s (nI i)) (fun i s => s = nI (gc_c x i)) 64 0 (0 : Int32) (by omega) rfl
    (fun n s (hs : s = nI (gc_c x 64)) => by subst hs; exact pk_le 64 64 (fun _ => h) (fun z => absurd z (by omega)))
    (fun n i s hi (hs : s = nI (gc_c x i)) hw => by
      subst hs
      have e : nI (gc_c x i) + ((x >>> ((nI i).toInt64 &&& 63)).toInt32 &&& 1) = nI (gc_c x (i + 1)) := by rw [gc_os x hi, nI_add]; rfl
      exact pk_le 64 i (fun z => absurd z (by omega)) (fun _ => nm_r e (nm_r (nI_1 i) (hw _ rfl))))
theorem gc_good {post : Int32 → Prop} {n p : Nat} {a1 a2 a3 : Nat → Int64} (hp : p < n) (hn : n ≤ 5) (h : post 1) : wpX_isGood post (nI n, a1, a2, a3) (nI p) :=
  br_f (nI_pos (by omega)) (br_f (nI_ge hp (by omega)) h)
theorem gc_bad {post : Int32 → Prop} {n p : Nat} {a1 a2 a3 : Nat → Int64} (hp : n ≤ p) (hn : p < 8) (h : post 0) : wpX_isGood post (nI n, a1, a2, a3) (nI p) :=
  br_f (nI_pos (by omega)) (br_t (nI_le hp (by omega)) h)
theorem gc_weak {post : Int64 → Prop} {c : Int32} {a1 a2 a3 : Nat → Int64} {p : Nat} {q : Int64} (P : Nat → Bool) (hp : p < 30) (hP : ∀ s, s < 64 → (a1 (64 * p + s) &&& (q ^^^ (-1)) = 0 ↔ P s = true)) (h : post (gc_s P 64)) : wpX_weakOf post (c, a1, a2, a3) (nI p) q :=
  pk_loop (fun n i s => wX_weakOf_6 post (nI p) q c a1 a2 a3 n s (nI i)) (fun i s => s = gc_s P i) 64 0 (0 : Int64) (by omega) rfl
    (fun n s (hs : s = gc_s P 64) => by subst hs; exact pk_le 64 64 (fun _ => h) (fun z => absurd z (by omega)))
    (fun n i s hi (hs : s = gc_s P i) hw => by
      subst hs
      refine pk_le 64 i (fun z => absurd z (by omega)) (fun _ => ⟨pk_in _ 1920 (by omega) (gc_ix p i), ?_⟩)
      rw [gc_cl hp hi]
      refine br_c (fun z => ?_) (fun z => ?_)
      · exact br_f (by decide) (nm_e (nm_r (nI_1 i) (hw _ (gc_s_pos ((hP i hi).mp z)).symm)))
      · exact br_t rfl (nm_r (nI_1 i) (hw _ (gc_s_neg (Bool.eq_false_iff.mpr (fun e => z ((hP i hi).mpr e)))).symm)))
theorem gc_image {post : Int64 → Prop} {c : Int32} {a1 a2 a3 : Nat → Int64} {p : Nat} {q : Int64} (f : Nat → Int64) (hp : p < 30) (hf : ∀ s, s < 64 → a1 (64 * p + s) = f s) (h : post (gc_i f q 64)) : wpX_imageOf post (c, a1, a2, a3) (nI p) q :=
  pk_loop (fun n i s => wX_imageOf_6 post (nI p) q c a1 a2 a3 n s (nI i)) (fun i s => s = gc_i f q i) 64 0 (0 : Int64) (by omega) rfl
    (fun n s (hs : s = gc_i f q 64) => by subst hs; exact pk_le 64 64 (fun _ => h) (fun z => absurd z (by omega)))
    (fun n i s hi (hs : s = gc_i f q i) hw => by
      subst hs
      refine pk_le 64 i (fun z => absurd z (by omega)) (fun _ => gc_has hi (fun z => br_f (by decide) ⟨pk_in _ 1920 (by omega) (gc_ix p i), ?_⟩) (fun z => br_t rfl ?_))
      · rw [gc_cl hp hi, hf i hi]
        exact nm_e (nm_r (nI_1 i) (hw _ (gc_i_pos z).symm))
      · exact nm_r (nI_1 i) (hw _ (gc_i_neg z).symm))
theorem gc_settle {post : Int32 → Prop} {n p : Nat} {a1 a2 a3 : Nat → Int64} (hp : p < n) (hn : n ≤ 5) (hz : ∀ s, s < 64 → a1 (64 * p + s) &&& (a1 (64 * p + s) - 1) = 0) (h : post 1) : wpX_settled post (nI n, a1, a2, a3) (nI p) := by
  unfold wpX_settled; dsimp only
  refine gc_good hp hn (br_f (by decide) ?_)
  exact pk_loop (σ := Unit) (fun k i _ => wX_settled_12 post (nI p) (nI n) a1 a2 a3 k (nI i)) (fun _ _ => True) 64 0 () (by omega) trivial
    (fun k _ _ => pk_le 64 64 (fun _ => h) (fun z => absurd z (by omega)))
    (fun k i _ hi _ hw => pk_le 64 i (fun z => absurd z (by omega)) (fun _ => ⟨pk_in _ 1920 (by omega) (gc_ix p i), nm_r (congrArg a1 (gc_cl (by omega) hi)) ⟨pk_in p 30 (by omega), gc_has hi (fun _ => br_f (by decide) (br_t (hz i hi) (nm_r (nI_1 i) (hw () trivial)))) (fun _ => br_t rfl (nm_r (nI_1 i) (hw () trivial)))⟩⟩))
theorem gc_settle_n {post : Int32 → Prop} {n p : Nat} {a1 a2 a3 : Nat → Int64} (hp : n ≤ p) (hn : p < 8) (h : post (-1)) : wpX_settled post (nI n, a1, a2, a3) (nI p) := by
  unfold wpX_settled; dsimp only
  exact gc_bad hp hn (br_t rfl h)
theorem gc_sure {post : Int64 → Prop} {n p : Nat} {a1 a2 a3 : Nat → Int64} (hp : p < n) (hn : n ≤ 5) (h : post (a2 p)) : wpX_sure post (nI n, a1, a2, a3) (nI p) := by
  unfold wpX_sure; dsimp only
  refine gc_good hp hn (br_f (by decide) ⟨pk_in p 30 (by omega), ?_⟩)
  rw [nI_clamp (by omega)]
  exact h
theorem gc_wDem {post : Int64 → Prop} {n p : Nat} {a1 a2 a3 : Nat → Int64} {q : Int64} (P : Nat → Bool) (hp : p < n) (hn : n ≤ 5) (hP : ∀ s, s < 64 → (a1 (64 * p + s) &&& (q ^^^ (-1)) = 0 ↔ P s = true)) (h : post (gc_s P 64)) : wpX_weakDemand post (nI n, a1, a2, a3) (nI p) q := by
  unfold wpX_weakDemand; dsimp only
  exact gc_good hp hn (br_f (by decide) (gc_weak P (by omega) hP h))
theorem gc_dem {post : Int64 → Prop} {n p : Nat} {a1 a2 a3 : Nat → Int64} {q : Int64} (P : Nat → Bool) (hp : p < n) (hn : n ≤ 5) (hP : ∀ s, s < 64 → (a1 (64 * p + s) &&& (q ^^^ (-1)) = 0 ↔ P s = true)) (h : post (a2 p &&& gc_s P 64)) : wpX_demand post (nI n, a1, a2, a3) (nI p) q := by
  unfold wpX_demand; dsimp only
  refine gc_good hp hn (br_f (by decide) ⟨pk_in p 30 (by omega), ?_⟩)
  rw [nI_clamp (by omega)]
  exact gc_weak P (by omega) hP h
theorem gc_img {post : Int64 → Prop} {n p : Nat} {a1 a2 a3 : Nat → Int64} {q : Int64} (f : Nat → Int64) (hp : p < n) (hn : n ≤ 5) (hf : ∀ s, s < 64 → a1 (64 * p + s) = f s) (h : post (gc_i f q 64)) : wpX_image post (nI n, a1, a2, a3) (nI p) q := by
  unfold wpX_image; dsimp only
  exact gc_good hp hn (br_f (by decide) (gc_image f (by omega) hf h))
theorem gc_wide {post : Int32 → Prop} {n p : Nat} {a1 a2 a3 : Nat → Int64} (P : Nat → Bool) (hp : p < n) (hn : n ≤ 5) (hc : ∀ s, s < 64 → gc_c (a1 (64 * p + s)) 64 = if P s then 1 else 0) (h : post (nI (if gc_any P 64 then 1 else 0))) : wpX_widest post (nI n, a1, a2, a3) (nI p) := by
  unfold wpX_widest; dsimp only
  refine gc_good hp hn (br_f (by decide) ?_)
  exact pk_loop (fun k i s => wX_widest_14 post (nI p) (nI n) a1 a2 a3 k s (nI i)) (fun i s => s = nI (if gc_any P i then 1 else 0)) 64 0 (0 : Int32) (by omega) rfl
    (fun k s (hs : s = nI (if gc_any P 64 then 1 else 0)) => by subst hs; exact pk_le 64 64 (fun _ => h) (fun z => absurd z (by omega)))
    (fun k i s hi (hs : s = nI (if gc_any P i then 1 else 0)) hw => by
      subst hs
      refine pk_le 64 i (fun z => absurd z (by omega)) (fun _ => ⟨pk_in _ 1920 (by omega) (gc_ix p i), ?_⟩)
      rw [gc_cl (by omega) hi]
      refine gc_oX ?_
      rw [hc i hi]
      have e : gc_any P (i + 1) = (gc_any P i || P i) := rfl
      cases hA : gc_any P i <;> cases hB : P i
      · exact br_t (by decide) (nm_r (nI_1 i) (hw _ (by show _ = nI (if gc_any P (i + 1) then 1 else 0); rw [e, hA, hB]; rfl)))
      · exact br_f (by decide) (nm_r (nI_1 i) (hw _ (by show _ = nI (if gc_any P (i + 1) then 1 else 0); rw [e, hA, hB]; rfl)))
      · exact br_t (by decide) (nm_r (nI_1 i) (hw _ (by show _ = nI (if gc_any P (i + 1) then 1 else 0); rw [e, hA, hB]; rfl)))
      · exact br_t (by decide) (nm_r (nI_1 i) (hw _ (by show _ = nI (if gc_any P (i + 1) then 1 else 0); rw [e, hA, hB]; rfl))))
theorem gc_ends {post : Int64 → Prop} {n p s : Nat} {a1 a2 a3 : Nat → Int64} (hp : p < n) (hn : n ≤ 5) (hs : s < 64) (h : post (a1 (64 * p + s))) : wpX_ends post (nI n, a1, a2, a3) (nI p) (nI s) := by
  unfold wpX_ends; dsimp only
  refine gc_good hp hn (br_f (by decide) (br_f (nI_pos (by omega)) (br_f (nI_ge (b := 64) hs (by decide)) (br_f (by decide) ⟨pk_in _ 1920 (by omega) (gc_ix p s), ?_⟩))))
  rw [gc_cl (by omega) hs]
  exact h
end
section
/-! the walks of the methods that store -/
def gc_F (n : Nat) (f : Nat → Int64) (a : Nat → Int64) (i : Nat) (s : Nat → Int64) : Prop := (∀ j, j < 64 * n → s j = a j) ∧ ∀ j, j < i → s (64 * n + j) = f j
theorem gc_F_0 {n : Nat} {f a : Nat → Int64} : gc_F n f a 0 a := ⟨fun _ _ => rfl, fun j hj => absurd hj (by omega)⟩
theorem gc_F_s {n : Nat} {f a s : Nat → Int64} {i : Nat} (h : gc_F n f a i s) : gc_F n f a (i + 1) (vp_updL s (64 * n + i) (f i)) :=
  ⟨fun j hj => (pk_uLn (by omega)).trans (h.1 j hj), fun j hj => by
    by_cases e : j = i
    · subst e; exact pk_uLs
    · rw [pk_uLn (by omega)]; exact h.2 j (by omega)⟩
theorem gc_close {post : Int32 → St1 → Prop} {n : Nat} {a1 a2 a3 : Nat → Int64} (h : post (nI n) (nI (n + 1), a1, a2, a3)) : wpX_close post (nI n, a1, a2, a3) := by
  unfold wpX_close; dsimp only
  refine nm_r (nI_1 n) ?_
  rw [nI_pred]
  exact h
theorem gc_skip {post : Int32 → St1 → Prop} {n : Nat} {a1 a2 a3 : Nat → Int64} (hn : n ≤ 5) (H : ∀ a, gc_F n gc_b a1 64 a → post (nI n) (nI (n + 1), a, vp_updL a2 n (-1), a3)) : wpX_skip post (nI n, a1, a2, a3) := by
  unfold wpX_skip; dsimp only
  refine pk_eq n 30 (fun z => absurd z (by omega)) (fun _ => ?_)
  refine pk_loop (fun k i s => wX_skip_13 post (nI n) k (nI i) s a2 a3) (fun i s => gc_F n gc_b a1 i s) 64 0 a1 (by omega) gc_F_0 ?_ ?_
  · intro k s hs
    refine pk_le 64 64 (fun _ => ⟨pk_in n 30 (by omega), ?_⟩) (fun z => absurd z (by omega))
    rw [nI_clamp (by omega)]
    exact nm_e (gc_close (H s hs))
  · intro k i s hi hs hw
    refine pk_le 64 i (fun z => absurd z (by omega)) (fun _ => ⟨pk_in _ 1920 (by omega) (gc_ix n i), ?_⟩)
    rw [gc_cl (by omega) hi]
    exact nm_e (nm_r (nI_1 i) (hw _ (gc_F_s hs)))
theorem gc_fail {post : Int32 → St1 → Prop} {n : Nat} {a1 a2 a3 : Nat → Int64} (hn : n ≤ 5) (H : ∀ a, gc_F n (fun _ => 0) a1 64 a → post (nI n) (nI (n + 1), a, vp_updL a2 n 0, a3)) : wpX_fail post (nI n, a1, a2, a3) := by
  unfold wpX_fail; dsimp only
  refine pk_eq n 30 (fun z => absurd z (by omega)) (fun _ => ?_)
  refine pk_loop (fun k i s => wX_fail_13 post (nI n) k (nI i) s a2 a3) (fun i s => gc_F n (fun _ => 0) a1 i s) 64 0 a1 (by omega) gc_F_0 ?_ ?_
  · intro k s hs
    refine pk_le 64 64 (fun _ => ⟨pk_in n 30 (by omega), ?_⟩) (fun z => absurd z (by omega))
    rw [nI_clamp (by omega)]
    exact nm_e (gc_close (H s hs))
  · intro k i s hi hs hw
    refine pk_le 64 i (fun z => absurd z (by omega)) (fun _ => ⟨pk_in _ 1920 (by omega) (gc_ix n i), ?_⟩)
    rw [gc_cl (by omega) hi]
    exact nm_e (nm_r (nI_1 i) (hw _ (gc_F_s hs)))
/-- where an assignment leads -/
def gc_a (w f s : Nat) : Nat := if w = 0 then 8 * gc_v f s + s % 8 else s / 8 * 8 + gc_v f s
theorem gc_a_lt {w f s : Nat} (hs : s < 64) : gc_a w f s < 64 := by
  have h := gc_v_lt f s
  unfold gc_a
  split <;> omega
theorem gc_a_0 {w f s : Nat} (hw : w = 0) (hs : s < 64) : (8 : Int32) * nI (gc_v f s) + (nI s &&& 7) = nI (gc_a w f s) := by
  rw [gc_s7 s hs]
  show nI 8 * nI (gc_v f s) + nI (s % 8) = nI (gc_a w f s)
  rw [pk_mul, nI_add, gc_a, if_pos hw]
theorem gc_a_1 {w f s : Nat} (hw : w ≠ 0) (hs : s < 64) : (nI s &&& 56) + nI (gc_v f s) = nI (gc_a w f s) := by
  rw [gc_s56 s hs, nI_add, gc_a, if_neg hw]
theorem gc_assign {post : Int32 → St1 → Prop} {n w f : Nat} {a1 a2 a3 : Nat → Int64} (hn : n ≤ 5) (hw2 : w < 2) (hf : f < 512) (H : ∀ a, gc_F n (fun s => gc_b (gc_a w f s)) a1 64 a → post (nI n) (nI (n + 1), a, vp_updL a2 n (-1), a3)) : wpX_assign post (nI n, a1, a2, a3) (nI w) (nI f) := by
  unfold wpX_assign; dsimp only
  refine br_f (nI_pos (by omega)) (pk_le f 511 (fun _ => pk_eq n 30 (fun z => absurd z (by omega)) (fun _ => ?_)) (fun z => absurd z (by omega)))
  refine pk_loop (fun k i s => wX_assign_27 post (nI w) (nI f) (nI n) k (nI i) s a2 a3) (fun i s => gc_F n (fun s => gc_b (gc_a w f s)) a1 i s) 64 0 a1 (by omega) gc_F_0 ?_ ?_
  · intro k s hs
    refine pk_le 64 64 (fun _ => ⟨pk_in n 30 (by omega), ?_⟩) (fun z => absurd z (by omega))
    rw [nI_clamp (by omega)]
    exact nm_e (gc_close (H s hs))
  · intro k i s hi hs hw
    have hF := gc_F_s hs
    refine pk_le 64 i (fun z => absurd z (by omega)) (fun _ => gc_fX hf hi (pk_eq w 0 (fun z => ?_) (fun z => ?_)))
    · rw [gc_a_0 z hi]
      unfold wX_assign_64
      rw [gc_cl (by omega) hi]
      exact ⟨pk_in _ 1920 (by omega) (gc_ix n i), nm_e (nm_r (nI_1 i) (hw _ hF))⟩
    · rw [gc_a_1 z hi]
      unfold wX_assign_64
      rw [gc_cl (by omega) hi]
      exact ⟨pk_in _ 1920 (by omega) (gc_ix n i), nm_e (nm_r (nI_1 i) (hw _ hF))⟩
theorem gc_i_e {r : Option Nat} {g : Nat → Option Nat} (h : ∀ t, r = some t → t < 64) : gc_i (fun s => gc_e (g s)) (gc_e r) 64 = gc_e (r.bind g) := by
  cases r with
  | none => exact gc_i_0 64
  | some t => exact (gc_i_b (h t rfl) 64).trans (if_pos (h t rfl))
theorem gc_seq {post : Int32 → St1 → Prop} {n x y : Nat} {a1 a2 a3 : Nat → Int64} {A B : Nat → Option Nat} (hn : n ≤ 5) (hx : x < n) (hy : y < n) (hA : ∀ s, s < 64 → ∀ t, A s = some t → t < 64)
    (ex : ∀ s, s < 64 → a1 (64 * x + s) = gc_e (A s)) (ey : ∀ s, s < 64 → a1 (64 * y + s) = gc_e (B s)) (sx : a2 x = gc_s (fun s => (A s).isSome) 64) (sy : a2 y = gc_s (fun s => (B s).isSome) 64)
    (H : ∀ a, gc_F n (fun s => gc_e ((A s).bind B)) a1 64 a → post (nI n) (nI (n + 1), a, vp_updL a2 n (gc_s (fun s => ((A s).bind B).isSome) 64), a3)) : wpX_sequence post (nI n, a1, a2, a3) (nI x) (nI y) := by
  unfold wpX_sequence; dsimp only
  refine gc_good hx hn (br_f (by decide) (gc_good hy hn (br_f (by decide) (pk_eq n 30 (fun z => absurd z (by omega)) (fun _ => ?_)))))
  refine pk_loop (σ := Int64 × (Nat → Int64)) (fun k i s => wX_sequence_35 post (nI x) (nI y) (nI n) k s.1 (nI i) s.2 a2 a3) (fun i s => s.1 = gc_s (fun s => ((A s).bind B).isSome) i ∧ gc_F n (fun s => gc_e ((A s).bind B)) a1 i s.2) 64 0 (0, a1) (by omega) ⟨rfl, gc_F_0⟩ ?_ ?_
  · intro k s hs
    obtain ⟨x3, a⟩ := s
    obtain ⟨h1, h2⟩ := hs
    dsimp only at h1 h2
    subst h1
    show wX_sequence_35 post (nI x) (nI y) (nI n) (k + 1) (gc_s (fun s => ((A s).bind B).isSome) 64) (nI 64) a a2 a3
    refine pk_le 64 64 (fun _ => ⟨pk_in n 30 (by omega), ?_⟩) (fun z => absurd z (by omega))
    rw [nI_clamp (by omega)]
    exact nm_e (gc_close (H a h2))
  · intro k i s hi hs hw
    obtain ⟨x3, a⟩ := s
    obtain ⟨h1, h2⟩ := hs
    dsimp only at h1 h2
    subst h1
    have hw' : ∀ x3' a', x3' = gc_s (fun s => ((A s).bind B).isSome) (i + 1) → gc_F n (fun s => gc_e ((A s).bind B)) a1 (i + 1) a' → wX_sequence_35 post (nI x) (nI y) (nI n) k x3' (nI (i + 1)) a' a2 a3 := fun x3' a' p1 p2 => hw (x3', a') ⟨p1, p2⟩
    have hF : gc_F n (fun s => gc_e ((A s).bind B)) a1 (i + 1) (vp_updL a (64 * n + i) (gc_e ((A i).bind B))) := gc_F_s h2
    show wX_sequence_35 post (nI x) (nI y) (nI n) (k + 1) (gc_s (fun s => ((A s).bind B).isSome) i) (nI i) a a2 a3
    refine pk_le 64 i (fun z => absurd z (by omega)) (fun _ => ⟨pk_in _ 1920 (by omega) (gc_ix x i), nm_r (e' := gc_e (A i)) ?_ ?_⟩)
    · rw [gc_cl (by omega) hi, h2.1 (64 * x + i) (by omega), ex i hi]
    · refine gc_image (fun s => gc_e (B s)) (by omega) (fun s hs => by rw [h2.1 (64 * y + s) (by omega), ey s hs]) ?_
      rw [gc_i_e (hA i hi)]
      refine ⟨pk_in _ 1920 (by omega) (gc_ix n i), nm_r (e' := vp_updL a (64 * n + i) (gc_e ((A i).bind B))) (by rw [gc_cl (by omega) hi]) ⟨pk_in x 30 (by omega), ?_⟩⟩
      rw [nI_clamp (show x < 2 ^ 31 by omega), nI_clamp (show y < 2 ^ 31 by omega)]
      generalize vp_updL a (64 * n + i) (gc_e ((A i).bind B)) = a' at hF ⊢
      have hb : gc_t (a2 x) i = (A i).isSome := by rw [sx, gc_s_t _ 64 (by omega)]; simp [hi]
      have hq : ∀ v, A i = v → ((fun s => ((A s).bind B).isSome) i) = (v.bind B).isSome := fun v hv => by rw [← hv]
      cases hr : A i with
      | none =>
        have q := hq none hr
        refine gc_has hi (fun z => ?_) (fun _ => br_t rfl (br_t rfl (nm_r (gc_or0 _) (nm_r (nI_1 i) (hw' _ _ (gc_s_neg q).symm hF)))))
        rw [hb, hr] at z
        exact absurd z (by decide)
      | some t =>
        have q := hq (some t) hr
        have ht := hA i hi t hr
        have hb2 : gc_t (a2 y) t = (B t).isSome := by rw [sy, gc_s_t _ 64 (by omega)]; simp [ht]
        refine gc_has hi (fun _ => br_f (by decide) ⟨pk_in y 30 (by omega), ?_⟩) (fun z => ?_)
        · refine ek_if (gc_bn ht (a2 y)) (fun z => ?_) (fun z => ?_)
          · rw [hb2] at z
            exact br_f (by decide) (nm_e (nm_r (nI_1 i) (hw' _ _ (gc_s_pos (q.trans z)).symm hF)))
          · rw [hb2] at z
            exact br_t rfl (nm_r (gc_or0 _) (nm_r (nI_1 i) (hw' _ _ (gc_s_neg (q.trans (Bool.eq_false_iff.mpr z))).symm hF)))
        · rw [hb, hr] at z
          exact absurd z (by simp)
theorem gc_cmp77 {post : Int32 → St1 → Prop} {c : Int32} {w : Nat} {a1 a2 a3 : Nat → Int64} {x : Int64} (hw : w < 2) (H : post (nI (gc_c x 64)) (c, a1, a2, vp_updL a3 w x)) : wX_compare_77 post x (nI w) c a1 a2 a3 := by
  unfold wX_compare_77
  rw [nI_clamp (by omega)]
  exact ⟨pk_in w 2 hw, nm_e (gc_oX H)⟩
theorem gc_comp {post : Int32 → St1 → Prop} {c : Int32} {w f b : Nat} {a1 a2 a3 : Nat → Int64} (P : Nat → Bool) (hw2 : w < 2) (hf : f < 512) (hb : b < 8) (hP : ∀ s, s < 64 → P s = decide (gc_v f s < b)) (H : post (nI (gc_c (gc_s P 64) 64)) (c, a1, a2, vp_updL a3 w (gc_s P 64))) : wpX_compare post (c, a1, a2, a3) (nI w) (nI f) (nI b) := by
  unfold wpX_compare; dsimp only
  refine br_f (nI_pos (by omega)) (pk_le f 511 (fun _ => br_f (nI_pos (by omega)) (pk_le b 8 (fun _ => ?_) (fun z => absurd z (by omega)))) (fun z => absurd z (by omega)))
  refine pk_loop (σ := Unit) (fun k i _ => wX_compare_32 post (nI w) (nI f) (nI b) c a1 a2 a3 k (gc_s P i) (nI i)) (fun _ _ => True) 64 0 () (by omega) trivial ?_ ?_
  · intro k _ _
    refine pk_le 64 64 (fun _ => pk_eq w 0 (fun z => ?_) (fun z => ?_)) (fun z => absurd z (by omega))
    · subst z
      exact gc_cmp77 (w := 0) (by omega) H
    · have e : w = 1 := by omega
      subst e
      exact gc_cmp77 (w := 1) (by omega) H
  · intro k i _ hi _ hw
    have hl := gc_v_lt f i
    have hw' : ∀ x, x = gc_s P (i + 1) → wX_compare_32 post (nI w) (nI f) (nI b) c a1 a2 a3 k x (nI (i + 1)) := fun x hx => by subst hx; exact hw () trivial
    refine pk_le 64 i (fun z => absurd z (by omega)) (fun _ => gc_fX hf hi (pk_le b (gc_v f i) (fun z => ?_) (fun z => ?_)))
    · exact nm_r (nI_1 i) (hw' _ (gc_s_neg ((hP i hi).trans (decide_eq_false (by omega)))).symm)
    · exact nm_e (nm_r (nI_1 i) (hw' _ (gc_s_pos ((hP i hi).trans (decide_eq_true z))).symm))
theorem gc_opp9 {post : Int32 → St1 → Prop} {c : Int32} {w : Nat} {a1 a2 a3 : Nat → Int64} (hw : w < 2) (H : post (nI (gc_c (a3 w ^^^ (-1)) 64)) (c, a1, a2, vp_updL a3 w (a3 w ^^^ (-1)))) : wX_oppose_9 post (nI w) c a1 a2 a3 := by
  unfold wX_oppose_9
  rw [nI_clamp (by omega)]
  refine ⟨pk_in w 2 hw, pk_in w 2 hw, nm_e ⟨pk_in w 2 hw, gc_oX ?_⟩⟩
  rw [pk_uLs]
  exact H
theorem gc_gua13 {post : Int32 → St1 → Prop} {c : Int32} {w : Nat} {a1 a2 a3 : Nat → Int64} {x : Int64} (hw : w < 2) (H : post (nI (gc_c x 64)) (c, a1, a2, vp_updL a3 w x)) : wX_guard_13 post x (nI w) c a1 a2 a3 := by
  unfold wX_guard_13
  rw [nI_clamp (by omega)]
  exact ⟨pk_in w 2 hw, nm_e (gc_oX H)⟩
end
section
/-! the law's interpreter: its list of programs, its stack, its steps -/
def gc_K (R : Nat → Nat → Option Nat) (p c : Nat) : Prop := (c = 2000 ∧ ∀ s, s < 64 → R p s = some s) ∨ (c = 2001 ∧ ∀ s, s < 64 → R p s = none) ∨ (c < 1024 ∧ ∀ s, s < 64 → R p s = some (gc_a (c / 512) (c % 512) s)) ∨ ∃ x y, x < p ∧ y < p ∧ c = 1024 + 8 * x + y ∧ ∀ s, s < 64 → R p s = (R x s).bind (R y)
def gc_I (R : Nat → Nat → Option Nat) (n m : Nat) : Prop := n ≤ 5 ∧ m < 2 ^ (11 * n) ∧ ∀ p, p < n → (∀ s, s < 64 → ∀ t, R p s = some t → t < 64) ∧ gc_K R p (m / 2 ^ (11 * p) % 2048)
theorem gc_I_m {R : Nat → Nat → Option Nat} {n m : Nat} (h : gc_I R n m) : m < 2 ^ 62 := by
  obtain ⟨h1, h2, _⟩ := h
  have h3 : 2 ^ (11 * n) ≤ 2 ^ 62 := Nat.pow_le_pow_right (by decide) (by omega)
  omega
theorem gc_lshr {a d : Nat} {D : Int64} (hD : (D.toBitVec.smod 64).toNat = d) (h : a < 2 ^ 62) : lN a >>> D = lN (a / 2 ^ d) := by
  have hd : a / 2 ^ d ≤ a := Nat.div_le_self _ _
  apply Int64.toInt_inj.mp
  have e : (lN a >>> D).toInt = (lN a).toInt >>> d := by
    rw [← hD]
    exact BitVec.toInt_sshiftRight ..
  rw [e, Int.shiftRight_eq_div_pow, pk_lT (by omega), pk_lT (by omega)]
  rfl
theorem gc_lshl (a : Nat) {d : Nat} {D : Int64} (hD : (D.toBitVec.smod 64).toNat = d) : lN a <<< D = lN (a * 2 ^ d) := by
  apply Int64.toBitVec_inj.mp
  apply BitVec.eq_of_toNat_eq
  show ((lN a).toBitVec <<< (D.toBitVec.smod 64).toNat).toNat = (BitVec.ofNat 64 (a * 2 ^ d)).toNat
  rw [hD, BitVec.toNat_shiftLeft, Nat.shiftLeft_eq]
  show (BitVec.ofNat 64 a).toNat * 2 ^ d % 2 ^ 64 = _
  rw [BitVec.toNat_ofNat, BitVec.toNat_ofNat, Nat.mul_mod, Nat.mod_mod, ← Nat.mul_mod]
theorem gc_lor (a b : Nat) : lN a ||| lN b = lN (a ||| b) := by
  apply Int64.toBitVec_inj.mp
  rw [Int64.toBitVec_or]
  show BitVec.ofNat 64 a ||| BitVec.ofNat 64 b = BitVec.ofNat 64 (a ||| b)
  apply BitVec.eq_of_getLsbD_eq
  intro i hi
  simp [BitVec.getLsbD_ofNat, hi]
theorem gc_tnN (N : Nat) : (nI N).toBitVec.toNat = N % 4294967296 := by
  show (BitVec.ofNat 32 N).toNat = _
  rw [BitVec.toNat_ofNat]
theorem gc_m2047 (N : Nat) : nI N &&& 2047 = nI (N % 2048) := by
  rw [pk_and (nI N) 11 (by decide), gc_tnN]
  congr 1
  omega
theorem gc_lm7 (N : Nat) : (lN N).toInt32 &&& 7 = nI (N % 8) := by
  rw [lN_i, gc_m7, gc_tnN]
  congr 1
  omega
theorem gc_or3 {e x y : Nat} (hx : x < 8) (hy : y < 8) : (e * 2 ^ 6 ||| x) ||| (y * 2 ^ 3) = x + 8 * (y + 8 * e) := by
  have h1 : x ||| y * 2 ^ 3 = y * 2 ^ 3 + x := by
    rw [Nat.or_comm, ← Nat.shiftLeft_eq, Nat.shiftLeft_add_eq_or_of_lt (show x < 2 ^ 3 by omega)]
  have h2 : e * 2 ^ 6 ||| (y * 2 ^ 3 + x) = e * 2 ^ 6 + (y * 2 ^ 3 + x) := by
    rw [← Nat.shiftLeft_eq e, Nat.shiftLeft_add_eq_or_of_lt (show y * 2 ^ 3 + x < 2 ^ 6 by omega)]
  rw [Nat.or_assoc, h1, h2]
  omega
def gc_enc : List Nat → Nat
  | [] => 0
  | h :: t => h + 8 * gc_enc t
def gc_ok (n : Nat) : List Nat → Prop
  | [] => True
  | h :: t => h < n ∧ h + t.length ≤ 4 ∧ gc_ok n t
def gc_cost : List Nat → Nat
  | [] => 0
  | h :: t => (2 ^ (h + 1) - 1) + gc_cost t
def gc_run (R : Nat → Nat → Option Nat) : List Nat → Nat → Option Nat
  | [], s => some s
  | h :: t, s => (R h s).bind (gc_run R t)
def gc_o : Option Nat → Int32
  | none => -1
  | some t => nI t
theorem gc_enc_lt {n : Nat} : ∀ l : List Nat, gc_ok n l → gc_enc l < 8 ^ l.length := by
  intro l
  induction l with
  | nil => intro _; decide
  | cons h t ih =>
    intro hk
    obtain ⟨_, h2, h3⟩ := hk
    have i := ih h3
    show h + 8 * gc_enc t < 8 ^ (t.length + 1)
    rw [Nat.pow_succ]
    omega
theorem gc_enc_b {n : Nat} {l : List Nat} (h : gc_ok n l) : gc_enc l < 32768 := by
  have h1 := gc_enc_lt l h
  have h2 : l.length ≤ 5 := by
    cases l with
    | nil => exact Nat.zero_le _
    | cons a t =>
      obtain ⟨_, h3, _⟩ := h
      show t.length + 1 ≤ 5
      omega
  have h3 : 8 ^ l.length ≤ 8 ^ 5 := Nat.pow_le_pow_right (by decide) h2
  omega
theorem gc_c1 (h : Nat) : 1 ≤ 2 ^ (h + 1) - 1 := by
  have : 2 ^ 1 ≤ 2 ^ (h + 1) := Nat.pow_le_pow_right (by decide) (by omega)
  omega
theorem gc_c2 {x y h : Nat} (hx : x < h) (hy : y < h) : (2 ^ (x + 1) - 1) + (2 ^ (y + 1) - 1) + 1 ≤ 2 ^ (h + 1) - 1 := by
  have h1 : 2 ^ (x + 1) ≤ 2 ^ h := Nat.pow_le_pow_right (by decide) (by omega)
  have h2 : 2 ^ (y + 1) ≤ 2 ^ h := Nat.pow_le_pow_right (by decide) (by omega)
  have h3 := gc_c1 x
  have h4 := gc_c1 y
  rw [Nat.pow_succ 2 h]
  omega
theorem gc_at {post : Int32 → Prop} {m h : Nat} {X : Int32} (hX : X = nI h) (hm : m < 2 ^ 62) (hh : h ≤ 4) (H : post (nI (m / 2 ^ (11 * h) % 2048))) : wpL_at post () (lN m) X := by
  subst hX
  unfold wpL_at
  have e : (11 : Int32) * nI h = nI (11 * h) := pk_mul 11 h
  rw [e, gc_lshr (gc_cs (11 * h) (by omega)) hm, lN_i, gc_m2047]
  exact H
theorem gc_led13 {post : Int32 → Prop} {R : Nat → Nat → Option Nat} {n m : Nat} (hI : gc_I R n m) : ∀ (f : Nat) (l : List Nat) (s k : Nat), gc_ok n l → s < 64 → gc_cost l < f → k + gc_cost l ≤ 31 → post (gc_o (gc_run R l s)) → wL_led_13 post (lN m) f (lN (gc_enc l)) (nI l.length) (nI s) (nI k) := by
  intro f
  induction f with
  | zero => intro l s k _ _ hf; exact absurd hf (by omega)
  | succ f ih =>
    intro l s k hk hs hf hc hp
    cases l with
    | nil => exact pk_le 200 k (fun z => absurd z (by omega)) (fun _ => pk_le 0 0 (fun _ => hp) (fun z => absurd z (by omega)))
    | cons h t =>
      have hb := gc_enc_b hk
      obtain ⟨h1, h2, h3⟩ := hk
      have hn := hI.1
      obtain ⟨hr, hK⟩ := hI.2.2 h h1
      have hf' : (2 ^ (h + 1) - 1) + gc_cost t < f + 1 := hf
      have hc' : k + ((2 ^ (h + 1) - 1) + gc_cost t) ≤ 31 := hc
      have hp' : post (gc_o ((R h s).bind (gc_run R t))) := hp
      have g1 := gc_c1 h
      have hlen : (h :: t).length = t.length + 1 := rfl
      have e1 : gc_enc (h :: t) = h + 8 * gc_enc t := rfl
      refine pk_le 200 k (fun z => absurd z (by omega)) (fun _ => pk_le (t.length + 1) 0 (fun z => absurd z (by omega)) (fun _ => ?_))
      refine gc_at (h := h) (by rw [gc_lm7, e1]; congr 1; omega) (gc_I_m hI) (by omega) ?_
      refine nm_r (e' := lN (gc_enc t)) (by rw [gc_lshr (d := 3) (by decide) (by omega), e1]; congr 1; omega) (nm_r (pk_m1 t.length) ?_)
      generalize m / 2 ^ (11 * h) % 2048 = c at hK
      rcases hK with ⟨rfl, hR⟩ | ⟨rfl, hR⟩ | ⟨hc1, hR⟩ | ⟨x, y, hx, hy, rfl, hR⟩
      · rw [hR s hs] at hp'
        exact br_f (by decide) (br_t (by decide) (br_t (by decide) (nm_r (nI_1 k) (ih t s (k + 1) h3 hs (by omega) (by omega) hp'))))
      · rw [hR s hs] at hp'
        exact br_t (by decide) hp'
      · rw [hR s hs] at hp'
        have hv := gc_v_lt (c % 512) s
        have ha := gc_a_lt (w := c / 512) (f := c % 512) hs
        refine pk_eq c 2001 (fun z => absurd z (by omega)) (fun _ => pk_le 1024 c (fun z => absurd z (by omega)) (fun _ => ?_))
        refine gc_wL hs ?_
        rw [gc_m511, gc_tnN, gc_tnN, show c % 4294967296 % 512 % 4294967296 = c % 512 by omega]
        refine pk_le 512 c (fun z => ?_) (fun z => ?_)
        · exact nm_r (gc_a_1 (w := c / 512) (by omega) hs) (nm_r (nI_1 k) (ih t _ (k + 1) h3 ha (by omega) (by omega) hp'))
        · exact nm_r (gc_a_0 (w := c / 512) (by omega) hs) (nm_r (nI_1 k) (ih t _ (k + 1) h3 ha (by omega) (by omega) hp'))
      · have g2 := gc_c2 hx hy
        have eR : (R h s).bind (gc_run R t) = gc_run R (x :: y :: t) s := by
          rw [hR s hs]
          show ((R x s).bind (R y)).bind (gc_run R t) = (R x s).bind (fun a => (R y a).bind (gc_run R t))
          rw [Option.bind_assoc]
        rw [eR] at hp'
        have hcost : gc_cost (x :: y :: t) = (2 ^ (x + 1) - 1) + ((2 ^ (y + 1) - 1) + gc_cost t) := rfl
        have ex : (nI (1024 + 8 * x + y) >>> ((3 : Int32) &&& 31)) &&& 7 = nI x := by
          rw [gc_f3, gc_tnN]; congr 1; omega
        have ey : nI (1024 + 8 * x + y) &&& 7 = nI y := by
          rw [gc_m7, gc_tnN]; congr 1; omega
        have eT : ((lN (gc_enc t) <<< ((6 : Int32).toInt64 &&& 63)) ||| (((nI (1024 + 8 * x + y) >>> ((3 : Int32) &&& 31)) &&& 7).toInt64)) ||| (((nI (1024 + 8 * x + y) &&& 7).toInt64) <<< ((3 : Int32).toInt64 &&& 63)) = lN (gc_enc (x :: y :: t)) := by
          rw [ex, ey, nI_l (by omega), nI_l (by omega), gc_lshl _ (d := 6) (by decide), gc_lshl _ (d := 3) (by decide), gc_lor, gc_lor, gc_or3 (by omega) (by omega)]
          rfl
        refine pk_eq (1024 + 8 * x + y) 2001 (fun z => absurd z (by omega)) (fun _ => pk_le 1024 (1024 + 8 * x + y) (fun _ => pk_le 2000 (1024 + 8 * x + y) (fun z => absurd z (by omega)) (fun _ => ?_)) (fun z => absurd z (by omega)))
        exact nm_r eT (nm_r (nI_add t.length 2) (nm_r (nI_1 k) (ih (x :: y :: t) s (k + 1) ⟨by omega, by show x + (t.length + 1) ≤ 4; omega, by omega, by omega, h3⟩ hs (by omega) (by omega) hp')))
theorem gc_led {post : Int32 → Prop} {R : Nat → Nat → Option Nat} {n m p s : Nat} (hI : gc_I R n m) (hp : p < n) (hs : s < 64) (h : post (gc_o (R p s))) : wpL_led post () (lN m) (nI p) (nI s) := by
  have hn := hI.1
  have hc : 2 ^ (p + 1) ≤ 2 ^ 5 := Nat.pow_le_pow_right (by decide) (by omega)
  have hcost : gc_cost [p] = (2 ^ (p + 1) - 1) + 0 := rfl
  have e : gc_run R [p] s = R p s := by
    show (R p s).bind (fun a => some a) = R p s
    cases R p s <;> rfl
  refine ⟨32, ?_⟩
  rw [nI_l (by omega)]
  exact gc_led13 hI 32 [p] s 0 ⟨hp, by show p + 0 ≤ 4; omega, trivial⟩ hs (by omega) (by omega) (by rw [e]; exact h)
end
section
/-! the law's check of one program -/
def gc_A (R : Nat → Nat → Option Nat) (n : Nat) (a1 a2 : Nat → Int64) : Prop := ∀ p, p < n → (∀ s, s < 64 → a1 (64 * p + s) = gc_e (R p s)) ∧ a2 p = gc_s (fun s => (R p s).isSome) 64
def gc_w (q : Int64) : Option Nat → Bool
  | none => true
  | some t => gc_t q t
theorem gc_w_e {q : Int64} {r : Option Nat} (h : ∀ t, r = some t → t < 64) : gc_e r &&& (q ^^^ (-1)) = 0 ↔ gc_w q r = true := by
  cases r with
  | none =>
    refine ⟨fun _ => rfl, fun _ => ?_⟩
    apply gc_ext
    intro i hi
    show gc_t (0 &&& (q ^^^ (-1))) i = gc_t 0 i
    rw [gc_t_and, gc_t_0, Bool.false_and]
  | some t => exact gc_bn (h t rfl) q
theorem gc_agree {post : Int32 → Prop} {R : Nat → Nat → Option Nat} {n m p : Nat} {a1 a2 a3 : Nat → Int64} {q : Int64} (hI : gc_I R n m) (hA : gc_A R n a1 a2) (hp8 : p < 8) (h : post 1) : wpL_agrees post (nI n, a1, a2, a3) (lN m) (nI n) (nI p) q := by
  have hn := hI.1
  unfold wpL_agrees; dsimp only
  refine br_t rfl (pk_lt p n (fun hp => ?_) (fun hp => ?_))
  rotate_left 1
  · exact br_t rfl (gc_settle_n hp hp8 (br_t rfl h))
  · obtain ⟨hr, _⟩ := hI.2.2 p hp
    obtain ⟨hE, hS⟩ := hA p hp
    have hW : ∀ s, s < 64 → (a1 (64 * p + s) &&& (q ^^^ (-1)) = 0 ↔ (fun s => gc_w q (R p s)) s = true) := fun s hs => by
      rw [hE s hs]
      exact gc_w_e (hr s hs)
    refine pk_loop (σ := Unit) (fun k i _ => wL_agrees_50 post (lN m) (nI p) q (nI n) a1 a2 a3 k (gc_s (fun s => gc_w q (R p s)) i) (gc_i (fun s => gc_e (R p s)) q i) (gc_s (fun s => (R p s).isSome) i) (nI i)) (fun _ _ => True) 64 0 () (by omega) trivial ?_ ?_
    · intro k _ _
      refine pk_le 64 64 (fun _ => ?_) (fun z => absurd z (by omega))
      refine gc_sure hp hn (br_t hS (gc_wDem (fun s => gc_w q (R p s)) hp hn hW (br_t rfl (gc_dem (fun s => gc_w q (R p s)) hp hn hW (br_t (by rw [hS]; exact gc_and_c _ _) (gc_img (fun s => gc_e (R p s)) hp hn hE (br_t rfl (gc_settle hp hn (fun s hs => by rw [hE s hs]; exact gc_set (hr s hs)) (br_t rfl (gc_wide (fun s => (R p s).isSome) hp hn (fun s hs => by rw [hE s hs]; exact gc_e_c (hr s hs)) ?_)))))))))) 
      exact ek_if (gc_s_any 64 (by omega)) (fun z => br_t (by rw [z]; rfl) h) (fun z => br_t (by rw [(Bool.not_eq_false _).mp z]; rfl) h)
    · intro k i _ hi _ hw
      have key : ∀ w' im' su', w' = gc_s (fun s => gc_w q (R p s)) (i + 1) → im' = gc_i (fun s => gc_e (R p s)) q (i + 1) → su' = gc_s (fun s => (R p s).isSome) (i + 1) → wL_agrees_50 post (lN m) (nI p) q (nI n) a1 a2 a3 k w' im' su' (nI (i + 1)) := by
        intro w' im' su' h1 h2 h3
        subst h1 h2 h3
        exact hw () trivial
      refine pk_le 64 i (fun z => absurd z (by omega)) (fun _ => gc_led hI hp hi (gc_ends hp hn hi ?_))
      rw [hE i hi]
      have hri := hr i hi
      have q1 : ∀ v, R p i = v → (fun s => gc_w q (R p s)) i = gc_w q v := fun v hv => by rw [← hv]
      have q3 : ∀ v, R p i = v → (fun s => (R p s).isSome) i = v.isSome := fun v hv => by rw [← hv]
      cases hv : R p i with
      | none =>
        have im : gc_i (fun s => gc_e (R p s)) q i = gc_i (fun s => gc_e (R p s)) q (i + 1) := by
          cases hq : gc_t q i
          · exact (gc_i_neg hq).symm
          · rw [gc_i_pos hq, hv]
            exact (gc_or0 _).symm
        exact br_f (by decide) (br_t rfl (br_t (by decide) (br_t (by decide) (nm_e (br_t (by decide) (nm_r (nI_1 i) (key _ _ _ (gc_s_pos (q1 none hv)).symm im (gc_s_neg (q3 none hv)).symm)))))))
      | some t =>
        have ht := hri t hv
        have su := (gc_s_pos (P := fun s => (R p s).isSome) (k := i) (q3 (some t) hv)).symm
        have leaf : ∀ w', w' = gc_s (fun s => gc_w q (R p s)) (i + 1) → wL_agrees_134 post (wL_agrees_50 post (lN m) (nI p) q (nI n) a1 a2 a3 k) (lN m) (nI p) q w' (gc_i (fun s => gc_e (R p s)) q i) (gc_s (fun s => (R p s).isSome) i ||| gc_b i) (nI i) (nI t) (nI n) a1 a2 a3 := by
          intro w' hw'
          refine br_f (nI_pos (by omega)) (ek_if (gc_hs q hi) (fun z => ?_) (fun z => ?_))
          · exact nm_e (nm_r (nI_1 i) (key _ _ _ hw' (by rw [gc_i_pos z, hv]; rfl) su))
          · exact nm_r (nI_1 i) (key _ _ _ hw' (gc_i_neg (Bool.eq_false_iff.mpr z)).symm su)
        refine br_t (nI_pos' (by omega)) (br_t rfl (br_f (nI_pos (by omega)) (nm_e (br_f (nI_pos (by omega)) (ek_if (gc_hs q ht) (fun z => ?_) (fun z => ?_))))))
        · exact nm_e (leaf _ (gc_s_pos ((q1 (some t) hv).trans z)).symm)
        · exact leaf _ (gc_s_neg ((q1 (some t) hv).trans (Bool.eq_false_iff.mpr z))).symm
end
section
/-! one more program -/
theorem gc_m_old {m n c p : Nat} (hp : p < n) : (m + c * 2 ^ (11 * n)) / 2 ^ (11 * p) % 2048 = m / 2 ^ (11 * p) % 2048 := by
  obtain ⟨j, rfl⟩ : ∃ j, n = p + 1 + j := ⟨n - p - 1, by omega⟩
  have e : c * 2 ^ (11 * (p + 1 + j)) = (2048 * (c * 2 ^ (11 * j))) * 2 ^ (11 * p) := by
    rw [show 11 * (p + 1 + j) = 11 + (11 * j + 11 * p) by omega, Nat.pow_add, Nat.pow_add, show 2 ^ 11 = 2048 from rfl]
    simp only [Nat.mul_assoc, Nat.mul_left_comm]
  rw [e, Nat.add_mul_div_right _ _ (Nat.two_pow_pos _), Nat.add_mul_mod_self_left]
theorem gc_m_new {m n c : Nat} (hm : m < 2 ^ (11 * n)) (hc : c < 2048) : (m + c * 2 ^ (11 * n)) / 2 ^ (11 * n) % 2048 = c := by
  rw [Nat.add_mul_div_right _ _ (Nat.two_pow_pos _), Nat.div_eq_of_lt hm, Nat.zero_add, Nat.mod_eq_of_lt hc]
theorem gc_m_lt {m n c : Nat} (hm : m < 2 ^ (11 * n)) (hc : c < 2048) : m + c * 2 ^ (11 * n) < 2 ^ (11 * (n + 1)) := by
  rw [show 11 * (n + 1) = 11 * n + 11 by omega, Nat.pow_add, show 2 ^ 11 = 2048 from rfl]
  have h : c * 2 ^ (11 * n) ≤ 2047 * 2 ^ (11 * n) := Nat.mul_le_mul_right _ (by omega)
  generalize 2 ^ (11 * n) = P at hm h
  omega
theorem gc_m_or {m n c : Nat} (hn : n < 5) (hc : c < 2048) (hm : m < 2 ^ (11 * n)) : lN m ||| ((nI c).toInt64 <<< ((11 * nI n).toInt64 &&& 63)) = lN (m + c * 2 ^ (11 * n)) := by
  have e : (11 : Int32) * nI n = nI (11 * n) := pk_mul 11 n
  rw [e, nI_l (by omega), gc_lshl c (gc_cs (11 * n) (by omega)), gc_lor, Nat.or_comm, ← Nat.shiftLeft_eq, ← Nat.shiftLeft_add_eq_or_of_lt hm, Nat.shiftLeft_eq, Nat.add_comm]
theorem gc_K_mono {R S : Nat → Nat → Option Nat} {p c : Nat} (h : ∀ p', p' ≤ p → S p' = R p') (k : gc_K R p c) : gc_K S p c := by
  have hp := h p (Nat.le_refl p)
  rcases k with ⟨h1, h2⟩ | ⟨h1, h2⟩ | ⟨h1, h2⟩ | ⟨x, y, hx, hy, h1, h2⟩
  · exact Or.inl ⟨h1, fun s hs => by rw [hp]; exact h2 s hs⟩
  · exact Or.inr (Or.inl ⟨h1, fun s hs => by rw [hp]; exact h2 s hs⟩)
  · exact Or.inr (Or.inr (Or.inl ⟨h1, fun s hs => by rw [hp]; exact h2 s hs⟩))
  · exact Or.inr (Or.inr (Or.inr ⟨x, y, hx, hy, h1, fun s hs => by rw [hp, h x (by omega), h y (by omega)]; exact h2 s hs⟩))
def gc_R (R : Nat → Nat → Option Nat) (n : Nat) (N : Nat → Option Nat) : Nat → Nat → Option Nat := fun p => if p = n then N else R p
theorem gc_R_n {R : Nat → Nat → Option Nat} {n : Nat} {N : Nat → Option Nat} : gc_R R n N n = N := if_pos rfl
theorem gc_R_p {R : Nat → Nat → Option Nat} {n p : Nat} {N : Nat → Option Nat} (h : p ≠ n) : gc_R R n N p = R p := if_neg h
theorem gc_add_I {R : Nat → Nat → Option Nat} {n m c : Nat} {N : Nat → Option Nat} (hI : gc_I R n m) (hn : n < 5) (hc : c < 2048) (hN : ∀ s, s < 64 → ∀ t, N s = some t → t < 64) (hK : gc_K (gc_R R n N) n c) : gc_I (gc_R R n N) (n + 1) (m + c * 2 ^ (11 * n)) := by
  obtain ⟨_, hm, h⟩ := hI
  refine ⟨by omega, gc_m_lt hm hc, fun p hp => ?_⟩
  by_cases e : p = n
  · subst e
    rw [gc_m_new hm hc]
    refine ⟨fun s hs t ht => ?_, hK⟩
    rw [gc_R_n] at ht
    exact hN s hs t ht
  · have hp' : p < n := by omega
    rw [gc_m_old hp', gc_R_p e]
    exact ⟨(h p hp').1, gc_K_mono (fun p' hl => gc_R_p (by omega)) (h p hp').2⟩
theorem gc_add_A {R : Nat → Nat → Option Nat} {n : Nat} {N : Nat → Option Nat} {a1 a2 a1' : Nat → Int64} (hA : gc_A R n a1 a2) (hF : gc_F n (fun s => gc_e (N s)) a1 64 a1') : gc_A (gc_R R n N) (n + 1) a1' (vp_updL a2 n (gc_s (fun s => (N s).isSome) 64)) := by
  intro p hp
  by_cases e : p = n
  · subst e
    rw [gc_R_n]
    exact ⟨fun s hs => hF.2 s hs, pk_uLs⟩
  · have hp' : p < n := by omega
    rw [gc_R_p e, pk_uLn e]
    exact ⟨fun s hs => (hF.1 _ (by omega)).trans ((hA p hp').1 s hs), (hA p hp').2⟩
end
section
/-! the law -/
theorem gc_548 {post : Int32 → Prop} {L : Nat} {xs : Nat → Int32} {J : Int64 → Int64 → Int64 → Int32 → Int32 → Int32 → (Nat → Int64) → (Nat → Int64) → (Nat → Int64) → Prop} {R : Nat → Nat → Option Nat} {n m k kc ks : Nat} {x4 x6 : Int64} {d : Int32} {a1 a2 a3 : Nat → Int64} (hL : L ≤ 260) (hk : k < L) (hI : gc_I R n m) (hA : gc_A R n a1 a2) (h : J (lN m) x4 x6 (nI n) (nI (k + 2)) (nI n) a1 a2 a3) : wL_law_548 post L xs J (lN m) x4 x6 (nI n) (nI k) d kc ks (nI n) a1 a2 a3 := by
  unfold wL_law_548
  refine ⟨pk_in k L hk, ?_⟩
  rw [gc_f12]
  exact gc_agree hI hA (by omega) (br_f (by decide) (nm_r (nI_add k 2) h))
/-- a program was made -/
theorem gc_231 {post : Int32 → Prop} {L : Nat} {xs : Nat → Int32} {J : Int64 → Int64 → Int64 → Int32 → Int32 → Int32 → (Nat → Int64) → (Nat → Int64) → (Nat → Int64) → Prop} {R : Nat → Nat → Option Nat} {n m k kc ks c : Nat} {x4 x6 : Int64} {d : Int32} {a1 a2 a3 : Nat → Int64} (hL : L ≤ 260) (hk : k < L) (hn : n < 5) (hc : c < 2048) (hm : m < 2 ^ (11 * n)) (hI : gc_I R (n + 1) (m + c * 2 ^ (11 * n))) (hA : gc_A R (n + 1) a1 a2) (h : J (lN (m + c * 2 ^ (11 * n))) x4 x6 (nI (n + 1)) (nI (k + 2)) (nI (n + 1)) a1 a2 a3) : wL_law_231 post L xs J (lN m) x4 x6 (nI n) (nI k) d (nI c) (nI n) kc ks (nI (n + 1)) a1 a2 a3 :=
  br_f (by decide) (br_t rfl (br_f (by decide) (nm_r (gc_m_or hn hc hm) (br_f (by decide) (nm_r (nI_1 n) (gc_548 hL hk hI hA h))))))
/-- none was made -/
theorem gc_235 {post : Int32 → Prop} {L : Nat} {xs : Nat → Int32} {J : Int64 → Int64 → Int64 → Int32 → Int32 → Int32 → (Nat → Int64) → (Nat → Int64) → (Nat → Int64) → Prop} {R : Nat → Nat → Option Nat} {n m k kc ks : Nat} {x4 x6 : Int64} {d x15 : Int32} {a1 a2 a3 : Nat → Int64} (hL : L ≤ 260) (hk : k < L) (hI : gc_I R n m) (hA : gc_A R n a1 a2) (h : J (lN m) x4 x6 (nI n) (nI (k + 2)) (nI n) a1 a2 a3) : wL_law_235 post L xs J (lN m) x4 x6 (nI n) (nI k) d x15 (-1) kc ks (nI n) a1 a2 a3 :=
  br_t rfl (br_t rfl (br_t rfl (br_t rfl (gc_548 hL hk hI hA h))))
/-- the conditions -/
theorem gc_284 {post : Int32 → Prop} {L : Nat} {xs : Nat → Int32} {J : Int64 → Int64 → Int64 → Int32 → Int32 → Int32 → (Nat → Int64) → (Nat → Int64) → (Nat → Int64) → Prop} {R : Nat → Nat → Option Nat} {n m k kc ks op w : Nat} {d : Int32} {a1 a2 a3 : Nat → Int64} (hL : L ≤ 260) (hk : k < L) (ho : op < 16) (hw : w < 2) (hI : gc_I R n m) (hA : gc_A R n a1 a2) (h : ∀ b, J (lN m) (b 0) (b 1) (nI n) (nI (k + 2)) (nI n) a1 a2 b) : wL_law_284 post L xs J (lN m) (a3 0) (a3 1) (nI n) (nI k) (nI op) d (nI w) kc ks (nI n) a1 a2 a3 := by
  have e548 : ∀ b : Nat → Int64, wL_law_548 post L xs J (lN m) (b 0) (b 1) (nI n) (nI k) d kc ks (nI n) a1 a2 b := fun b => gc_548 hL hk hI hA (h b)
  have hw' : w = 0 ∨ w = 1 := by omega
  unfold wL_law_284
  refine pk_le 11 op (fun z1 => pk_le 13 op (fun z2 => pk_eq op 13 (fun z3 => ?_) (fun _ => e548 a3)) (fun z2 => ?_)) (fun z1 => ?_)
  · refine ⟨pk_in k L hk, fun X _ => ?_⟩
    rcases hw' with rfl | rfl
    · exact br_t rfl (gc_gua13 (w := 0) (by decide) (gc_oL (br_t rfl (br_t rfl (br_f (by decide) (e548 (vp_updL a3 0 X)))))))
    · exact br_f (by decide) (gc_gua13 (w := 1) (by decide) (gc_oL (br_t rfl (br_f (by decide) (br_t rfl (e548 (vp_updL a3 1 X)))))))
  · rcases hw' with rfl | rfl
    · exact br_t rfl (br_f (by decide) (br_t rfl (gc_opp9 (w := 0) (by decide) (br_t rfl (gc_oL (br_t rfl (e548 (vp_updL a3 0 (a3 0 ^^^ (-1))))))))))
    · exact br_f (by decide) (br_t rfl (br_f (by decide) (gc_opp9 (w := 1) (by decide) (br_f (by decide) (gc_oL (br_t rfl (e548 (vp_updL a3 1 (a3 1 ^^^ (-1))))))))))
  · refine pk_loop (σ := Unit) (fun f i _ => wL_law_297 post L xs J (lN m) (a3 0) (a3 1) (nI n) (nI k) d (nI w) kc ks (nI n) a1 a2 a3 f (gc_s (fun s => decide (gc_v d.toBitVec.toNat s < d.toBitVec.toNat / 512 % 8)) i) (nI i)) (fun _ _ => True) 64 0 () (by omega) trivial ?_ ?_
    · intro f _ _
      refine pk_le 64 64 (fun _ => ?_) (fun z => absurd z (by omega))
      rw [gc_f9, gc_m511]
      refine gc_comp (fun s => decide (gc_v d.toBitVec.toNat s < d.toBitVec.toNat / 512 % 8)) hw (by omega) (by omega) (fun s hs => by rw [gc_v_m (u := d.toBitVec.toNat % 512) (w := d.toBitVec.toNat) (by omega)]) ?_
      generalize gc_s (fun s => decide (gc_v d.toBitVec.toNat s < d.toBitVec.toNat / 512 % 8)) 64 = X
      rcases hw' with rfl | rfl
      · exact gc_oL (br_t rfl (br_t rfl (br_f (by decide) (e548 (vp_updL a3 0 X)))))
      · exact gc_oL (br_t rfl (br_f (by decide) (br_t rfl (e548 (vp_updL a3 1 X)))))
    · intro f i _ hi _ hz
      have hl := gc_v_lt d.toBitVec.toNat i
      have hz' : ∀ x, x = gc_s (fun s => decide (gc_v d.toBitVec.toNat s < d.toBitVec.toNat / 512 % 8)) (i + 1) → wL_law_297 post L xs J (lN m) (a3 0) (a3 1) (nI n) (nI k) d (nI w) kc ks (nI n) a1 a2 a3 f x (nI (i + 1)) := fun x hx => by subst hx; exact hz () trivial
      refine pk_le 64 i (fun z => absurd z (by omega)) (fun _ => gc_wL hi ?_)
      rw [gc_f9]
      refine pk_le (d.toBitVec.toNat / 512 % 8) (gc_v d.toBitVec.toNat i) (fun z => ?_) (fun z => ?_)
      · exact nm_r (gc_or0 _) (nm_r (nI_1 i) (hz' _ (gc_s_neg (P := fun s => decide (gc_v d.toBitVec.toNat s < d.toBitVec.toNat / 512 % 8)) (decide_eq_false (by omega))).symm))
      · exact nm_e (nm_r (nI_1 i) (hz' _ (gc_s_pos (P := fun s => decide (gc_v d.toBitVec.toNat s < d.toBitVec.toNat / 512 % 8)) (decide_eq_true z)).symm))
end
section
/-! a turn of the law -/
theorem gc_seq_n {post : Int32 → St1 → Prop} {n x y : Nat} {a1 a2 a3 : Nat → Int64} (hn : n ≤ 5) (hx : x < 8) (hy : y < 8) (hb : n ≤ x ∨ n ≤ y) (H : post (-1) (nI n, a1, a2, a3)) : wpX_sequence post (nI n, a1, a2, a3) (nI x) (nI y) := by
  unfold wpX_sequence; dsimp only
  by_cases e : n ≤ x
  · exact gc_bad e hx (br_t rfl H)
  · exact gc_good (by omega) hn (br_f (by decide) (gc_bad (by omega) hy (br_t rfl H)))
theorem gc_133 {post : Int32 → Prop} {L : Nat} {xs : Nat → Int32} {J : Int64 → Int64 → Int64 → Int32 → Int32 → Int32 → (Nat → Int64) → (Nat → Int64) → (Nat → Int64) → Prop} {R : Nat → Nat → Option Nat} {n m k kc ks op w x y c : Nat} {d : Int32} {a1 a2 a3 : Nat → Int64} (hL : L ≤ 260) (hk : k < L) (ho : op < 16) (hw : w < 2) (hx : x < 8) (hy : y < 8)
    (hc : (op < 4 → c = d.toBitVec.toNat % 1024) ∧ (op = 4 → c = 2000) ∧ (op = 5 → c = 2001) ∧ (6 ≤ op → c = 1024 + 8 * x + y)) (hI : gc_I R n m) (hA : gc_A R n a1 a2)
    (h : ∀ (R : Nat → Nat → Option Nat) (n m : Nat) (a1 a2 b : Nat → Int64), gc_I R n m → gc_A R n a1 a2 → J (lN m) (b 0) (b 1) (nI n) (nI (k + 2)) (nI n) a1 a2 b) : wL_law_133 post L xs J (lN m) (a3 0) (a3 1) (nI n) (nI k) (nI op) d (nI x) (nI y) (nI w) (nI c) kc ks (nI n) a1 a2 a3 := by
  have hn := hI.1
  have e284 : wL_law_284 post L xs J (lN m) (a3 0) (a3 1) (nI n) (nI k) (nI op) d (nI w) kc ks (nI n) a1 a2 a3 := gc_284 hL hk ho hw hI hA (fun b => h R n m a1 a2 b hI hA)
  obtain ⟨c1, c2, c3, c4⟩ := hc
  unfold wL_law_133
  refine pk_le 9 op (fun _ => e284) (fun z1 => pk_le 5 n (fun _ => e284) (fun z2 => pk_le 4 op (fun z3 => pk_eq op 4 (fun z4 => ?_) (fun z4 => pk_eq op 5 (fun z5 => ?_) (fun z5 => ?_))) (fun z3 => ?_)))
  · obtain rfl := c2 z4
    refine gc_skip hn (fun a hF => ?_)
    have hI' := gc_add_I (N := fun s => some s) (c := 2000) hI z2 (by decide) (fun s hs t ht => by rw [← Option.some.inj ht]; exact hs) (Or.inl ⟨rfl, fun s hs => by rw [gc_R_n]⟩)
    have hA' := gc_add_A (N := fun s => some s) hA hF
    have e : gc_s (fun s => ((fun s => some s : Nat → Option Nat) s).isSome) 64 = -1 := gc_s_all
    rw [e] at hA'
    exact pk_lt op 6 (fun _ => gc_231 hL hk z2 (by decide) hI.2.1 hI' hA' (h _ _ _ _ _ a3 hI' hA')) (fun z => absurd z (by omega))
  · obtain rfl := c3 z5
    refine gc_fail hn (fun a hF => ?_)
    have hI' := gc_add_I (N := fun _ => none) (c := 2001) hI z2 (by decide) (fun s hs t ht => absurd ht (by simp)) (Or.inr (Or.inl ⟨rfl, fun s hs => by rw [gc_R_n]⟩))
    have hA' := gc_add_A (N := fun _ => none) hA hF
    have e : gc_s (fun s => ((fun _ => none : Nat → Option Nat) s).isSome) 64 = 0 := gc_s_none 64
    rw [e] at hA'
    exact pk_lt op 6 (fun _ => gc_231 hL hk z2 (by decide) hI.2.1 hI' hA' (h _ _ _ _ _ a3 hI' hA')) (fun z => absurd z (by omega))
  · obtain rfl := c4 (by omega)
    by_cases hb : n ≤ x ∨ n ≤ y
    · refine gc_seq_n hn hx hy hb ?_
      have e235 : wL_law_235 post L xs J (lN m) (a3 0) (a3 1) (nI n) (nI k) d (nI (1024 + 8 * x + y)) (-1) kc ks (nI n) a1 a2 a3 := gc_235 hL hk hI hA (h R n m a1 a2 a3 hI hA)
      exact pk_lt op 6 (fun z => absurd z (by omega)) (fun _ => pk_le n x (fun _ => e235) (fun _ => pk_le n y (fun _ => e235) (fun z => absurd z (by omega))))
    · have hxn : x < n := by omega
      have hyn : y < n := by omega
      refine gc_seq hn hxn hyn (hI.2.2 x hxn).1 (hA x hxn).1 (hA y hyn).1 (hA x hxn).2 (hA y hyn).2 (fun a hF => ?_)
      have hI' := gc_add_I (N := fun s => (R x s).bind (R y)) (c := 1024 + 8 * x + y) hI z2 (by omega) (fun s hs t ht => by
        obtain ⟨v, hv, hv2⟩ := Option.bind_eq_some_iff.mp ht
        exact (hI.2.2 y hyn).1 v ((hI.2.2 x hxn).1 s hs v hv) t hv2) (Or.inr (Or.inr (Or.inr ⟨x, y, hxn, hyn, rfl, fun s hs => by rw [gc_R_n, gc_R_p (by omega), gc_R_p (by omega)]⟩)))
      have hA' := gc_add_A (N := fun s => (R x s).bind (R y)) hA hF
      exact pk_lt op 6 (fun z => absurd z (by omega)) (fun _ => pk_le n x (fun z => absurd z (by omega)) (fun _ => pk_le n y (fun z => absurd z (by omega)) (fun _ => gc_231 hL hk z2 (by omega) hI.2.1 hI' hA' (h _ _ _ _ _ a3 hI' hA'))))
  · obtain rfl := c1 (by omega)
    rw [gc_f9', gc_m511]
    refine gc_assign hn (by omega) (by omega) (fun a hF => ?_)
    have hI' := gc_add_I (N := fun s => some (gc_a (d.toBitVec.toNat / 512 % 2) (d.toBitVec.toNat % 512) s)) (c := d.toBitVec.toNat % 1024) hI z2 (by omega) (fun s hs t ht => by rw [← Option.some.inj ht]; exact gc_a_lt hs) (Or.inr (Or.inr (Or.inl ⟨by omega, fun s hs => by rw [gc_R_n, show d.toBitVec.toNat % 1024 / 512 = d.toBitVec.toNat / 512 % 2 by omega, show d.toBitVec.toNat % 1024 % 512 = d.toBitVec.toNat % 512 by omega]⟩)))
    have hA' := gc_add_A (N := fun s => some (gc_a (d.toBitVec.toNat / 512 % 2) (d.toBitVec.toNat % 512) s)) hA hF
    have e : gc_s (fun s => ((fun s => some (gc_a (d.toBitVec.toNat / 512 % 2) (d.toBitVec.toNat % 512) s) : Nat → Option Nat) s).isSome) 64 = -1 := gc_s_all
    rw [e] at hA'
    exact pk_lt op 6 (fun _ => gc_231 hL hk z2 (by omega) hI.2.1 hI' hA' (h _ _ _ _ _ a3 hI' hA')) (fun z => absurd z (by omega))
end
section
/-! the law's loop, and what is owed -/
theorem gc_loop {L kc ks : Nat} {xs : Nat → Int32} (hL : L ≤ 260) : ∀ (f k : Nat) (R : Nat → Nat → Option Nat) (n m : Nat) (a1 a2 a3 : Nat → Int64), gc_I R n m → gc_A R n a1 a2 → k ≤ L + 1 → L + 1 < f + k → wL_law_22 (fun r => r = 1) L xs kc ks f (lN m) (a3 0) (a3 1) (nI n) (nI k) (nI n) a1 a2 a3 := by
  intro f
  induction f with
  | zero => intro k R n m a1 a2 a3 _ _ h1 h2; exact absurd h2 (by omega)
  | succ f ih =>
    intro k R n m a1 a2 a3 hI hA h1 h2
    refine pk_le L (k + 1) (fun _ => rfl) (fun hk => ?_) rfl (nI_1 k)
    rw [nI_clamp (show k < 2 ^ 31 by omega), nI_1 k, nI_clamp (show k + 1 < 2 ^ 31 by omega)]
    refine ⟨pk_in k L (by omega), nm_r (gc_m15 (xs k)) ⟨pk_in (k + 1) L (by omega), nm_e ⟨pk_in k L (by omega), nm_r (gc_f4 (xs k)) ⟨pk_in k L (by omega), nm_r (gc_f7 (xs k)) ⟨pk_in k L (by omega), nm_r (gc_f10 (xs k)) ?_⟩⟩⟩⟩⟩
    generalize (xs k).toBitVec.toNat = u
    have key : ∀ c, ((u % 16 < 4 → c = (xs (k + 1)).toBitVec.toNat % 1024) ∧ (u % 16 = 4 → c = 2000) ∧ (u % 16 = 5 → c = 2001) ∧ (6 ≤ u % 16 → c = 1024 + 8 * (u / 16 % 8) + u / 128 % 8)) → wL_law_133 (fun r => r = 1) L xs (wL_law_22 (fun r => r = 1) L xs kc ks f) (lN m) (a3 0) (a3 1) (nI n) (nI k) (nI (u % 16)) (xs (k + 1)) (nI (u / 16 % 8)) (nI (u / 128 % 8)) (nI (u / 1024 % 2)) (nI c) kc ks (nI n) a1 a2 a3 := fun c hc =>
      gc_133 hL (by omega) (by omega) (by omega) (by omega) (by omega) hc hI hA (fun R n m a1 a2 b hI hA => ih (k + 2) R n m a1 a2 b hI hA (by omega) (by omega))
    refine pk_le 4 (u % 16) (fun z => pk_eq (u % 16) 4 (fun z4 => key 2000 (by omega)) (fun z4 => pk_eq (u % 16) 5 (fun z5 => key 2001 (by omega)) (fun z5 => ?_))) (fun z => ?_)
    · have e : ((1024 : Int32) + 8 * nI (u / 16 % 8)) + nI (u / 128 % 8) = nI (1024 + 8 * (u / 16 % 8) + u / 128 % 8) := by
        show (nI 1024 + nI 8 * nI (u / 16 % 8)) + nI (u / 128 % 8) = _
        rw [pk_mul, nI_add, nI_add]
      rw [e]
      exact key _ (by omega)
    · rw [gc_m1023]
      exact key _ (by omega)
theorem i_vc (xs : Nat → Int32) (L : Nat) (hL : L ≤ 260) : wpL_law (fun r => r = 1) L xs :=
  ⟨3, 1952, by omega, by omega, by omega, by omega, by omega, by omega, by omega, by omega, L + 2, gc_loop (a3 := fun _ => 0) hL (L + 2) 0 (fun _ _ => none) 0 0 (fun _ => 0) (fun _ => 0) ⟨by omega, by decide, fun p hp => absurd hp (by omega)⟩ (fun p hp => absurd hp (by omega)) (by omega) (by omega)⟩
end
