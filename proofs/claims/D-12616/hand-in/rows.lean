section
/-- an int and a long out of an integer -/
def du_I (z : Int) : Int32 := Int32.ofInt z
def du_L (z : Int) : Int64 := Int64.ofInt z
theorem du_It {z : Int} (h1 : -2147483648 ≤ z) (h2 : z < 2147483648) : (du_I z).toInt = z := Int32.toInt_ofInt_of_le (by omega) (by omega)
theorem du_Lt {z : Int} (h1 : -9223372036854775808 ≤ z) (h2 : z < 9223372036854775808) : (du_L z).toInt = z := Int64.toInt_ofInt_of_le (by omega) (by omega)
theorem du_In (n : Nat) : nI n = du_I n := Int32.ofInt_eq_ofNat.symm
theorem du_Ln (n : Nat) : lN n = du_L n := Int64.ofInt_eq_ofNat.symm
theorem du_Iadd (a b : Int) : du_I a + du_I b = du_I (a + b) := (Int32.ofInt_add a b).symm
theorem du_Isub (a b : Int) : du_I a - du_I b = du_I (a - b) := (Int32.ofInt_sub a b).symm
theorem du_Imul (a b : Int) : du_I a * du_I b = du_I (a * b) := (Int32.ofInt_mul a b).symm
theorem du_Ineg (a : Int) : -du_I a = du_I (-a) := (Int32.ofInt_neg a).symm
theorem du_Ladd (a b : Int) : du_L a + du_L b = du_L (a + b) := (Int64.ofInt_add a b).symm
theorem du_Lsub (a b : Int) : du_L a - du_L b = du_L (a - b) := (Int64.ofInt_sub a b).symm
theorem du_Lmul (a b : Int) : du_L a * du_L b = du_L (a * b) := (Int64.ofInt_mul a b).symm
theorem du_Lneg (a : Int) : -du_L a = du_L (-a) := (Int64.ofInt_neg a).symm
theorem du_LI (z : Int) : (du_L z).toInt32 = du_I z := Int64.toInt32_ofInt
theorem du_IL {z : Int} (h1 : -2147483648 ≤ z) (h2 : z < 2147483648) : (du_I z).toInt64 = du_L z := by
  apply Int64.toInt_inj.mp
  rw [Jvm.Kit.i64_of_i32, du_It h1 h2, du_Lt (by omega) (by omega)]
theorem du_Ie {x : Int32} {z : Int} (h : x.toInt = z) : x = du_I z := by
  rw [← h]
  exact (Int32.ofInt_toInt x).symm
theorem du_nT {n : Nat} (h : n < 2147483648) : (nI n).toInt = (n : Int) := nI_toInt (by omega)
theorem du_lT {n : Nat} (h : n < 9223372036854775808) : (lN n).toInt = (n : Int) := pk_lT (by omega)
/-- branches by the integers behind the words -/
theorem du_ile {x y : Int32} {A B : Prop} {a b : Int} (hx : x.toInt = a) (hy : y.toInt = b) (f : a ≤ b → A) (g : b < a → B) : (x ≤ y → A) ∧ (¬ x ≤ y → B) := by
  subst hx hy
  rw [Int32.le_iff_toInt_le]
  exact ⟨f, fun z => g (by omega)⟩
theorem du_ilt {x y : Int32} {A B : Prop} {a b : Int} (hx : x.toInt = a) (hy : y.toInt = b) (f : a < b → A) (g : b ≤ a → B) : (x < y → A) ∧ (¬ x < y → B) := by
  subst hx hy
  rw [Int32.lt_iff_toInt_lt]
  exact ⟨f, fun z => g (by omega)⟩
theorem du_ieq {x y : Int32} {A B : Prop} {a b : Int} (hx : x.toInt = a) (hy : y.toInt = b) (f : a = b → A) (g : ¬ a = b → B) : (x = y → A) ∧ (¬ x = y → B) := by
  subst hx hy
  rw [← Int32.toInt_inj]
  exact ⟨f, g⟩
theorem du_lle {x y : Int64} {A B : Prop} {a b : Int} (hx : x.toInt = a) (hy : y.toInt = b) (f : a ≤ b → A) (g : b < a → B) : (x ≤ y → A) ∧ (¬ x ≤ y → B) := by
  subst hx hy
  rw [Int64.le_iff_toInt_le]
  exact ⟨f, fun z => g (by omega)⟩
theorem du_llt {x y : Int64} {A B : Prop} {a b : Int} (hx : x.toInt = a) (hy : y.toInt = b) (f : a < b → A) (g : b ≤ a → B) : (x < y → A) ∧ (¬ x < y → B) := by
  subst hx hy
  rw [Int64.lt_iff_toInt_lt]
  exact ⟨f, fun z => g (by omega)⟩
theorem du_leq {x y : Int64} {A B : Prop} {a b : Int} (hx : x.toInt = a) (hy : y.toInt = b) (f : a = b → A) (g : ¬ a = b → B) : (x = y → A) ∧ (¬ x = y → B) := by
  subst hx hy
  rw [← Int64.toInt_inj]
  exact ⟨f, g⟩
theorem du_lne {x y : Int64} {a b : Int} (hx : x.toInt = a) (hy : y.toInt = b) (h : ¬ a = b) : ¬ x = y := by
  subst hx hy
  intro e
  exact h (by rw [e])
/-- powers of ten -/
theorem du_pp (k : Nat) : 0 < 10 ^ k := Nat.pow_pos (by omega)
theorem du_pm {a b : Nat} (h : a ≤ b) : 10 ^ a ≤ 10 ^ b := Nat.pow_le_pow_right (by omega) h
theorem du_p18 {k : Nat} (h : k ≤ 18) : 10 ^ k < 9223372036854775808 := Nat.lt_of_le_of_lt (du_pm h) (by decide)
theorem du_m10 (r t : Nat) : r * 10 ^ (t + 1) % 10 = 0 := by
  rw [Nat.pow_succ, ← Nat.mul_assoc]
  exact Nat.mul_mod_left _ _
theorem du_d10 (r t : Nat) : r * 10 ^ (t + 1) / 10 = r * 10 ^ t := by
  rw [Nat.pow_succ, ← Nat.mul_assoc]
  exact Nat.mul_div_cancel _ (by omega)
/-- a number's digits -/
def du_D (n D : Nat) : Prop := 1 ≤ D ∧ n < 10 ^ D ∧ (D = 1 ∨ 10 ^ (D - 1) ≤ n)
theorem du_D4 {n D : Nat} (h : du_D n D) : D ≤ 4 ↔ n < 10000 := by
  obtain ⟨h1, h2, h3⟩ := h
  constructor
  · intro h
    have := du_pm h
    omega
  · intro h
    rcases Nat.lt_or_ge 4 D with g | g
    · rcases h3 with e | e
      · omega
      · have := du_pm (show 4 ≤ D - 1 by omega)
        omega
    · exact g
theorem du_D3 {n D : Nat} (h : du_D n D) (g : 1000 ≤ n) : 4 ≤ D := by
  obtain ⟨h1, h2, h3⟩ := h
  rcases Nat.lt_or_ge D 4 with e | e
  · have := du_pm (show D ≤ 3 by omega)
    omega
  · exact e
theorem du_exD (K n : Nat) (hK : 1 ≤ K) (h : n < 10 ^ K) : ∃ D, du_D n D ∧ D ≤ K := by
  induction K with
  | zero => omega
  | succ K ih =>
    by_cases e : K = 0
    · subst e
      exact ⟨1, ⟨by omega, h, Or.inl rfl⟩, by omega⟩
    · rcases Nat.lt_or_ge n (10 ^ K) with g | g
      · obtain ⟨D, a, b⟩ := ih (by omega) g
        exact ⟨D, a, by omega⟩
      · exact ⟨K + 1, ⟨by omega, h, Or.inr g⟩, by omega⟩
/-- the picture of a magnitude n: n = r * 10 ^ t, the zeros beyond four digits taken off, D: the digits of r -/
def du_P (n r t D : Nat) : Prop := n = r * 10 ^ t ∧ du_D r D ∧ (t = 0 ∨ 4 ≤ D) ∧ (D ≤ 4 ∨ ¬ r % 10 = 0)
theorem du_exP (K : Nat) : ∀ n, 1 ≤ K → n < 10 ^ K → ∃ r t D, du_P n r t D ∧ D + t ≤ K := by
  induction K with
  | zero => intro n h; omega
  | succ K ih =>
    intro n hK h
    obtain ⟨D, hD, hDK⟩ := du_exD (K + 1) n hK h
    by_cases c : 10000 ≤ n ∧ n % 10 = 0
    · have hK0 : 1 ≤ K := by
        rcases Nat.lt_or_ge K 1 with e | e
        · have e0 : K = 0 := by omega
          subst e0
          omega
        · exact e
      obtain ⟨r, t, E, ⟨p1, p2, p3, p4⟩, p5⟩ := ih (n / 10) hK0 (by rw [Nat.pow_succ] at h; omega)
      refine ⟨r, t + 1, E, ⟨?_, p2, Or.inr ?_, p4⟩, by omega⟩
      · rw [Nat.pow_succ, ← Nat.mul_assoc, ← p1]
        omega
      · rcases p3 with e | e
        · subst e
          exact du_D3 p2 (by omega)
        · exact e
    · refine ⟨n, 0, D, ⟨by omega, hD, Or.inl rfl, ?_⟩, by omega⟩
      rcases Nat.lt_or_ge n 10000 with e | e
      · exact Or.inl ((du_D4 hD).mpr e)
      · exact Or.inr (fun z => c ⟨e, z⟩)
theorem du_Pdig {n r t D : Nat} (h : du_P n r t D) : du_D n (D + t) := by
  obtain ⟨p1, ⟨q1, q2, q3⟩, p3, p4⟩ := h
  subst p1
  refine ⟨by omega, ?_, ?_⟩
  · rw [Nat.pow_add]
    exact Nat.mul_lt_mul_of_pos_right q2 (du_pp t)
  · rcases q3 with e | e
    · left
      omega
    · right
      rw [show D + t - 1 = (D - 1) + t by omega, Nat.pow_add]
      exact Nat.mul_le_mul_right _ e
theorem du_Plt {n r t D : Nat} (h : du_P n r t D) : n < 10000 ↔ (D ≤ 4 ∧ t = 0) := by
  have a := du_D4 (du_Pdig h)
  obtain ⟨p1, p2, p3, p4⟩ := h
  omega
/-- rounding: half, up or not, what is kept -/
def du_hf (dr un : Nat) : Int := if 2 * dr < un then -1 else if 2 * dr = un then 0 else 1
def du_up (m : Nat) (ng : Bool) (h : Int) (od : Bool) : Bool :=
  if m = 0 then decide (0 < h) || (decide (h = 0) && od) else if m = 1 then decide (0 ≤ h) else if m = 2 then false else if m = 3 then true else if m = 4 then ng else if m = 5 then !ng else decide (0 < h)
def du_q (m : Nat) (ng : Bool) (r k : Nat) : Nat := r / 10 ^ k + (if du_up m ng (du_hf (r % 10 ^ k) (10 ^ k)) (decide (r / 10 ^ k % 2 = 1)) = true then 1 else 0)
def du_c (m : Nat) (ng : Bool) (r D : Nat) : Nat := if D ≤ 4 then r else if du_q m ng r (D - 4) = 10000 then 1000 else du_q m ng r (D - 4)
def du_e (m : Nat) (ng : Bool) (r t D : Nat) : Nat := if D ≤ 4 then t else if du_q m ng r (D - 4) = 10000 then t + (D - 4) + 1 else t + (D - 4)
def du_f (t D : Nat) : Int32 := if D ≤ 4 then (if t = 0 then 0 else 2) else 3
theorem du_q_le {m : Nat} {ng : Bool} {r D : Nat} (h : du_D r D) (h4 : 4 < D) : r / 10 ^ (D - 4) < 10000 ∧ du_q m ng r (D - 4) ≤ 10000 := by
  have a : r / 10 ^ (D - 4) < 10000 := by
    rw [Nat.div_lt_iff_lt_mul (du_pp _), show (10000 : Nat) = 10 ^ 4 from rfl, ← Nat.pow_add, show 4 + (D - 4) = D by omega]
    exact h.2.1
  refine ⟨a, ?_⟩
  unfold du_q
  split <;> omega
theorem du_c_le {m : Nat} {ng : Bool} {r D : Nat} (h : du_D r D) : du_c m ng r D ≤ 9999 := by
  unfold du_c
  split
  · rename_i z
    have := (du_D4 h).mp z
    omega
  · rename_i z
    have := (du_q_le (m := m) (ng := ng) h (by omega)).2
    split <;> omega
theorem du_e_le {m : Nat} {ng : Bool} {r t D : Nat} (h : t = 0 ∨ 4 ≤ D) : du_e m ng r t D = 0 ∨ du_e m ng r t D + 3 ≤ D + t := by
  unfold du_e
  split
  · omega
  · split <;> omega
/-- sign -/
def du_bi (b : Bool) : Int32 := match b with | true => 1 | false => 0
def du_s (z : Int) : Int32 := du_bi (decide (z < 0))
def du_sg (z : Int) (c : Nat) : Int := if z < 0 then -(c : Int) else (c : Int)
theorem du_sg_b {z : Int} {c : Nat} (h : c ≤ 9999) : -9999 ≤ du_sg z c ∧ du_sg z c ≤ 9999 := by
  unfold du_sg
  split <;> omega
theorem du_s_t {z : Int} (h : z < 0) : du_s z = 1 := by
  unfold du_s
  rw [decide_eq_true h]
  rfl
theorem du_s_f {z : Int} (h : ¬ z < 0) : du_s z = 0 := by
  unfold du_s
  rw [decide_eq_false h]
  rfl
theorem du_abs_n {z : Int} (h : z < 0) : -du_L z = lN z.natAbs := by
  rw [du_Ln, du_Lneg]
  exact congrArg du_L (by omega)
theorem du_abs_p {z : Int} (h : 0 ≤ z) : du_L z = lN z.natAbs := by
  rw [du_Ln]
  exact congrArg du_L (by omega)
theorem du_sg_n {z : Int} {c : Nat} (h : z < 0) : (-lN c).toInt32 = du_I (du_sg z c) := by
  rw [du_Ln, du_Lneg, du_LI]
  unfold du_sg
  rw [if_pos h]
theorem du_sg_p {z : Int} {c : Nat} (h : ¬ z < 0) : (lN c).toInt32 = du_I (du_sg z c) := by
  rw [du_Ln, du_LI]
  unfold du_sg
  rw [if_neg h]
theorem du_byte {z : Int} (h1 : -128 ≤ z) (h2 : z < 128) : (du_I z).toInt8.toInt32 = du_I z :=
  lg_i2b_small (by rw [du_It (by omega) (by omega)]; exact h1) (by rw [du_It (by omega) (by omega)]; exact h2)
theorem du_odd {n : Nat} (hn : n < 9223372036854775808) : lN n &&& 1 = lN (n % 2) := by
  apply Int64.toBitVec_inj.mp
  rw [Int64.toBitVec_and]
  apply BitVec.eq_of_toNat_eq
  show ((BitVec.ofNat 64 n) &&& (BitVec.ofNat 64 1)).toNat = (BitVec.ofNat 64 (n % 2)).toNat
  rw [BitVec.toNat_and, BitVec.toNat_ofNat, BitVec.toNat_ofNat, BitVec.toNat_ofNat, Nat.mod_eq_of_lt (show n < 2 ^ 64 by omega), Nat.mod_eq_of_lt (show 1 < 2 ^ 64 by omega), Nat.mod_eq_of_lt (show n % 2 < 2 ^ 64 by omega), Nat.and_one_is_mod]
/-- the law's packed register -/
def du_pk (c e : Int) : Int32 := du_I (c * 256 + e + 100)
theorem du_pk_hi {c e : Int} (h1 : -9999 ≤ c) (h2 : c ≤ 9999) (h3 : -20 ≤ e) (h4 : e ≤ 20) : du_pk c e >>> ((8 : Int32) &&& 31) = du_I c := by
  apply du_Ie
  rw [pk_shr _ _ 8 (by decide), du_pk, du_It (by omega) (by omega), Int.shiftRight_eq_div_pow]
  omega
theorem du_pk_lo {c e : Int} (h1 : -9999 ≤ c) (h2 : c ≤ 9999) (h3 : -20 ≤ e) (h4 : e ≤ 20) : (du_pk c e &&& 255) - 100 = du_I e := by
  have ht : (du_pk c e).toInt = c * 256 + e + 100 := du_It (by omega) (by omega)
  have hb := (du_pk c e).toBitVec.isLt
  have hc : (du_pk c e).toInt = if 2 * (du_pk c e).toBitVec.toNat < 2 ^ 32 then ((du_pk c e).toBitVec.toNat : Int) else ((du_pk c e).toBitVec.toNat : Int) - (2 ^ 32 : Nat) := BitVec.toInt_eq_toNat_cond _
  rw [pk_and _ 8 (by decide), du_In, show (100 : Int32) = du_I 100 from rfl, du_Isub]
  refine congrArg du_I ?_
  rw [ht] at hc
  generalize (du_pk c e).toBitVec.toNat = n at *
  split at hc <;> omega
theorem du_rem (x : Int32) : ∃ c : Int, -9999 ≤ c ∧ c ≤ 9999 ∧ x - x / 10000 * 10000 = du_I c := by
  have e0 : (10000 : Int32) = du_I 10000 := rfl
  have e1 : (10000 : Int32).toInt = 10000 := by decide
  have hd : x / 10000 = du_I (x.toInt.tdiv 10000) := du_Ie (by rw [Jvm.Kit.i32_div (by rw [e1]; omega), e1])
  have a := Int.tmod_lt_of_pos x.toInt (show (0 : Int) < 10000 by omega)
  have b := Int.lt_tmod_of_pos x.toInt (show (0 : Int) < 10000 by omega)
  have c := Int.tmod_def x.toInt 10000
  refine ⟨x.toInt.tmod 10000, by omega, by omega, ?_⟩
  rw [hd, e0, du_Imul]
  have hx : x = du_I x.toInt := du_Ie rfl
  generalize x.toInt = X at *
  rw [hx, du_Isub]
  exact congrArg du_I (by omega)
end
section
/-- the table of tens -/
def du_T (a3 : Nat → Int64) : Prop := ∀ k, k < 19 → a3 k = lN (10 ^ k)
theorem du_Ta {a3 : Nat → Int64} (h : du_T a3) {k : Nat} (hk : k < 19) : a3 (nI k).toNatClampNeg = lN (10 ^ k) := by
  rw [nI_clamp (by omega)]
  exact h k hk
theorem du_Tt {a3 : Nat → Int64} (h : du_T a3) {k : Nat} (hk : k < 19) : (a3 (nI k).toNatClampNeg).toInt = ((10 ^ k : Nat) : Int) := by
  rw [du_Ta h hk]
  exact du_lT (du_p18 (by omega))
theorem du_init {post : St1 → Prop} {mc ms : Nat} (hc : 3 ≤ mc) (hs : 31 ≤ ms) (H : ∀ t, du_T t → post (4, 0, 0, 0, 0, 0, 0, (fun _ => 0), (fun _ => 0), t)) : wpX_init post mc ms (0, 0, 0, 0, 0, 0, 0) 4 := by
  unfold wpX_init
  dsimp only
  refine ⟨by omega, by omega, by omega, by omega, by omega, by omega, br_t (by decide) (br_t (by decide) (nm_e ?_))⟩
  refine pk_loop (fun n i s => wX_init_62 post mc ms 3 31 4 0 0 0 0 0 0 n (nI i) (fun _ => 0) (fun _ => 0) s) (fun i s => 1 ≤ i ∧ ∀ j, j < i → s j = lN (10 ^ j)) 19 1 _ (by omega) ⟨by omega, ?_⟩ ?_ ?_
  · intro j hj
    have e : j = 0 := by omega
    subst e
    exact pk_uLs
  · intro n s h
    exact pk_le 19 19 (fun _ => H s h.2) (fun z => absurd z (by omega))
  · intro n i s hi h hw
    obtain ⟨k, rfl⟩ : ∃ k, i = k + 1 := ⟨i - 1, by omega⟩
    refine pk_le 19 (k + 1) (fun z => absurd z (by omega)) (fun _ => ⟨pk_in k 19 (by omega) (nI_pred k), pk_in (k + 1) 19 hi, nm_e (nm_r (nI_1 (k + 1)) (hw _ ⟨by omega, ?_⟩))⟩)
    intro j hj
    rw [nI_clamp (show k + 1 < 2 ^ 31 by omega), nI_pred, nI_clamp (show k < 2 ^ 31 by omega)]
    by_cases e : j = k + 1
    · rw [e, pk_uLs, h.2 k (by omega), show (10 : Int64) = lN 10 from rfl, lN_mul, Nat.pow_succ, Nat.mul_comm]
    · rw [pk_uLn e]
      exact h.2 j (by omega)
section
variable {p rm ra ng sc mo : Int32} {mg : Int64} {a1 a2 : Nat → Int32} {a3 : Nat → Int64}
theorem du_isreg {post : Int32 → Prop} {d : Nat} (hd : d < 6) (hp : post 1) : wpX_isRegister post (p, rm, ra, ng, mg, sc, mo, a1, a2, a3) (nI d) := by
  unfold wpX_isRegister
  dsimp only
  exact pk_lt d 0 (fun h => absurd h (by omega)) (fun _ => pk_lt 5 d (fun h => absurd h (by omega)) (fun _ => hp))
theorem du_dig {post : Int32 → Prop} (hT : du_T a3) {n D : Nat} (hD : du_D n D) (hD18 : D ≤ 18) (hp : post (nI D)) : wpX_digitsOf post (p, rm, ra, ng, mg, sc, mo, a1, a2, a3) (lN n) := by
  have hn : n < 9223372036854775808 := Nat.lt_trans hD.2.1 (du_p18 hD18)
  have hlt := hD.2.1
  unfold wpX_digitsOf
  dsimp only
  refine pk_loop (σ := Unit) (fun f i _ => wX_digitsOf_2 post (lN n) p rm ra ng mg sc mo a1 a2 a3 f (nI i)) (fun i _ => 1 ≤ i) D 1 () hD.1 (by omega) ?_ ?_
  · intro f _ _
    exact pk_le 19 D (fun z => absurd z (by omega)) (fun _ => ⟨pk_in D 19 (by omega), du_llt (du_lT hn) (du_Tt hT (by omega)) (fun _ => hp) (fun z => absurd hlt (by omega))⟩)
  · intro f i _ hi h1 hw
    refine pk_le 19 i (fun z => absurd z (by omega)) (fun _ => ⟨pk_in i 19 (by omega), du_llt (du_lT hn) (du_Tt hT (by omega)) (fun z => ?_) (fun _ => nm_r (nI_1 i) (hw () (by omega)))⟩)
    exfalso
    rcases hD.2.2 with e | e
    · omega
    · have := du_pm (show i ≤ D - 1 by omega)
      omega
theorem du_take {post : St1 → Prop} {z : Int} {s : Int32} (h1 : -9223372036854775808 < z) (h2 : z < 9223372036854775808) (hp : post (p, rm, ra, du_s z, lN z.natAbs, s, 0, a1, a2, a3)) : wpX_take post (p, rm, ra, ng, mg, sc, mo, a1, a2, a3) (du_L z) s := by
  unfold wpX_take
  dsimp only
  refine du_lle (a := 0) (by decide) (du_Lt (by omega) h2) (fun h => ?_) (fun h => ?_)
  · rw [du_s_f (by omega), ← du_abs_p h] at hp
    exact ⟨rfl, rfl, br_t rfl hp⟩
  · rw [du_s_t h, ← du_abs_n h] at hp
    exact ⟨rfl, rfl, br_f (by decide) hp⟩
theorem du_bnd {b : Int} {k K : Nat} (h1 : -9999 ≤ b) (h2 : b ≤ 9999) (hk : k ≤ K) : (b * ((10 ^ k : Nat) : Int)).natAbs ≤ 9999 * 10 ^ K := by
  rw [Int.natAbs_mul, Int.natAbs_natCast]
  exact Nat.mul_le_mul (by omega) (du_pm hk)
theorem du_sum79 {post : St1 → Prop} (hT : du_T a3) {b s : Int} {k : Nat} {x11 x12 : Int32} (hb1 : -9999 ≤ b) (hb2 : b ≤ 9999) (hs1 : -9999 ≤ s) (hs2 : s ≤ 9999) (hk : k ≤ 12)
    (hp : post (p, rm, ra, du_s (b * ((10 ^ k : Nat) : Int) + s), lN (b * ((10 ^ k : Nat) : Int) + s).natAbs, x12, 0, a1, a2, a3)) : wX_sum_79 post (du_L b) (du_L s) x11 x12 (nI k) (lN b.natAbs) p rm ra ng mg sc mo a1 a2 a3 := by
  obtain ⟨D, hD, hD4⟩ := du_exD 4 b.natAbs (by omega) (by omega)
  have hb := du_bnd hb1 hb2 hk
  have e12 : 9999 * 10 ^ 12 = 9999000000000000 := by decide
  rw [e12] at hb
  unfold wX_sum_79
  refine du_dig hT hD (by omega) ?_
  refine du_leq (du_Lt (by omega) (by omega)) (b := 0) (by decide) (fun h => ?_) (fun h => ?_)
  · subst h
    rw [Int.zero_mul, Int.zero_add] at hp
    exact du_take (by omega) (by omega) hp
  · refine du_ilt (a := 18) (by decide) (b := ((D + k : Nat) : Int)) (by rw [nI_add]; exact du_nT (by omega)) (fun h => absurd h (by omega)) (fun h => ⟨pk_in k 19 (by omega), ?_⟩)
    rw [du_Ta hT (by omega), du_Ln, du_Lmul, du_Ladd]
    generalize b * ((10 ^ k : Nat) : Int) = V at *
    exact du_take (by omega) (by omega) hp
theorem du_sum54 {post : St1 → Prop} (hT : du_T a3) {b s g l : Int} (hb1 : -9999 ≤ b) (hb2 : b ≤ 9999) (hs1 : -9999 ≤ s) (hs2 : s ≤ 9999) (hg : l ≤ g) (hk : g ≤ l + 12)
    (hp : post (p, rm, ra, du_s (b * ((10 ^ (g - l).toNat : Nat) : Int) + s), lN (b * ((10 ^ (g - l).toNat : Nat) : Int) + s).natAbs, du_I l, 0, a1, a2, a3)) : wX_sum_54 post (du_L b) (du_L s) (du_I g) (du_I l) p rm ra ng mg sc mo a1 a2 a3 := by
  unfold wX_sum_54
  refine nm_r (e' := nI (g - l).toNat) (by rw [du_In, du_Isub]; exact congrArg du_I (by omega)) ?_
  refine du_lle (a := 0) (by decide) (du_Lt (by omega) (by omega)) (fun h => ?_) (fun h => ?_)
  · have := du_sum79 (x11 := du_I g) (ng := ng) (mg := mg) (sc := sc) (mo := mo) hT hb1 hb2 hs1 hs2 (show (g - l).toNat ≤ 12 by omega) hp
    rw [← du_abs_p h] at this
    exact this
  · have := du_sum79 (x11 := du_I g) (ng := ng) (mg := mg) (sc := sc) (mo := mo) hT hb1 hb2 hs1 hs2 (show (g - l).toNat ≤ 12 by omega) hp
    rw [← du_abs_n h] at this
    exact this
/-- the exact sum, and its exponent -/
def du_V2 (x e y f : Int) : Int := x * ((10 ^ (e - f).toNat : Nat) : Int) + y * ((10 ^ (f - e).toNat : Nat) : Int)
def du_mn (e f : Int) : Int := if e < f then e else f
theorem du_sum {post : St1 → Prop} (hT : du_T a3) {x e y f : Int} (hx1 : -9999 ≤ x) (hx2 : x ≤ 9999) (hy1 : -9999 ≤ y) (hy2 : y ≤ 9999) (he1 : -6 ≤ e) (he2 : e ≤ 6) (hf1 : -6 ≤ f) (hf2 : f ≤ 6)
    (hp : post (p, rm, ra, du_s (du_V2 x e y f), lN (du_V2 x e y f).natAbs, du_I (du_mn e f), 0, a1, a2, a3)) : wpX_sum post (p, rm, ra, ng, mg, sc, mo, a1, a2, a3) (du_L x) (du_I e) (du_L y) (du_I f) := by
  have hE : (du_I e).toInt = e := du_It (by omega) (by omega)
  have hF : (du_I f).toInt = f := du_It (by omega) (by omega)
  unfold wpX_sum
  dsimp only
  by_cases h : e < f
  · have c : du_I e < du_I f := by rw [Int32.lt_iff_toInt_lt, hE, hF]; exact h
    have hv : du_V2 x e y f = y * ((10 ^ (f - e).toNat : Nat) : Int) + x := by
      unfold du_V2
      rw [show (e - f).toNat = 0 by omega, Nat.pow_zero]
      omega
    have hm : du_mn e f = e := if_pos h
    rw [hv, hm] at hp
    exact br_t c (br_t c (br_t c (br_t c (du_sum54 hT hy1 hy2 hx1 hx2 (by omega) (by omega) hp))))
  · have c : ¬ du_I e < du_I f := by rw [Int32.lt_iff_toInt_lt, hE, hF]; exact h
    have hv : du_V2 x e y f = x * ((10 ^ (e - f).toNat : Nat) : Int) + y := by
      unfold du_V2
      rw [show (f - e).toNat = 0 by omega, Nat.pow_zero]
      omega
    have hm : du_mn e f = f := if_neg h
    rw [hv, hm] at hp
    exact br_f c (br_f c (br_f c (br_f c (du_sum54 hT hx1 hx2 hy1 hy2 (by omega) (by omega) hp))))
theorem du_raise {post : Int32 → St1 → Prop} {q : Int32} (hp : post q (p, rm, ra ||| q, ng, mg, sc, mo, a1, a2, a3)) : wpX_raise post (p, rm, ra, ng, mg, sc, mo, a1, a2, a3) q := by
  unfold wpX_raise
  dsimp only
  exact nm_e hp
theorem du_store {post : St1 → Prop} {z s : Int} {c d : Nat} (hd : d < 6) (h1 : -128 ≤ s) (h2 : s < 128) (hp : post (p, rm, ra, du_s z, lN c, du_I s, mo, upd a1 d (du_I (du_sg z c)), upd a2 d (du_I s), a3)) : wpX_store post (p, rm, ra, du_s z, lN c, du_I s, mo, a1, a2, a3) (nI d) := by
  unfold wpX_store
  dsimp only
  by_cases h : z < 0
  · refine br_f (by rw [du_s_t h]; decide) ⟨pk_in d 6 hd, nm_e ⟨pk_in d 6 hd, nm_e ?_⟩⟩
    rw [nI_clamp (show d < 2 ^ 31 by omega), du_sg_n h, du_byte h1 h2]
    exact hp
  · refine br_t (du_s_f h) ⟨pk_in d 6 hd, nm_e ⟨pk_in d 6 hd, nm_e ?_⟩⟩
    rw [nI_clamp (show d < 2 ^ 31 by omega), du_sg_p h, du_byte h1 h2]
    exact hp
theorem du_half {post : Int32 → Prop} {dr un : Nat} (h1 : dr < un) (h2 : un < 9223372036854775808) (hp : post (du_I (du_hf dr un))) : wpX_halfOf post (p, rm, ra, ng, mg, sc, 0, a1, a2, a3) (lN dr) (lN un) := by
  unfold wpX_halfOf
  dsimp only
  refine br_f (du_lne (du_lT h2) (b := 0) (by decide) (by omega)) (nm_r (lN_sub (by omega)) ?_)
  refine du_leq (du_lT (by omega)) (du_lT (by omega)) (fun h => br_t rfl ?_) (fun h => du_lle (du_lT (by omega)) (du_lT (by omega)) (fun g => ?_) (fun g => ?_))
  · have e : du_hf dr un = 0 := by
      unfold du_hf
      rw [if_neg (by omega), if_pos (by omega)]
    rw [e] at hp
    exact hp
  · have e : du_hf dr un = -1 := by
      unfold du_hf
      rw [if_pos (by omega)]
    rw [e, show du_I (-1) = -1 by decide] at hp
    exact hp
  · have e : du_hf dr un = 1 := by
      unfold du_hf
      rw [if_neg (by omega), if_neg (by omega)]
    rw [e] at hp
    exact hp
theorem du_b0 {post : Int32 → Prop} {b : Bool} (hp : post (du_bi b)) (h : b = false) : post 0 := by
  subst h
  exact hp
theorem du_b1 {post : Int32 → Prop} {b : Bool} (hp : post (du_bi b)) (h : b = true) : post 1 := by
  subst h
  exact hp
theorem du_goes {post : Int32 → Prop} {m n : Nat} {b : Bool} {h : Int} (hm : m < 7) (hn : n < 9223372036854775808) (h1 : -1 ≤ h) (h2 : h ≤ 1) (hp : post (du_bi (du_up m b h (decide (n % 2 = 1))))) :
    wpX_goesUp post (p, nI m, ra, du_bi b, mg, sc, mo, a1, a2, a3) (lN n) (du_I h) := by
  have hM : (nI m).toInt = (m : Int) := du_nT (by omega)
  have hH : (du_I h).toInt = h := du_It (by omega) (by omega)
  have hO : (lN n &&& 1).toInt = ((n % 2 : Nat) : Int) := by
    rw [du_odd hn]
    exact du_lT (by omega)
  unfold wpX_goesUp
  dsimp only
  refine du_ieq hM (b := 2) (by decide) (fun e => ?_) (fun n2 => du_ieq hM (b := 3) (by decide) (fun e => ?_) (fun n3 => du_ieq hM (b := 4) (by decide) (fun e => ?_) (fun n4 => du_ieq hM (b := 5) (by decide) (fun e => ?_) (fun n5 =>
    du_ieq hH (b := 0) (by decide) (fun h0 => du_ieq hM (b := 0) (by decide) (fun e => du_leq hO (b := 0) (by decide) (fun g => ?_) (fun g => ?_)) (fun n0 => du_ieq hM (b := 1) (by decide) (fun e => ?_) (fun n1 => ?_))) (fun h0 => du_ile hH (b := 0) (by decide) (fun g => ?_) (fun g => ?_))))))
  · have e' : m = 2 := by omega
    subst e'
    exact hp
  · have e' : m = 3 := by omega
    subst e'
    exact hp
  · have e' : m = 4 := by omega
    subst e'
    cases b
    · exact ⟨rfl, hp⟩
    · exact ⟨rfl, hp⟩
  · have e' : m = 5 := by omega
    subst e'
    cases b
    · exact br_t rfl hp
    · exact br_f (by decide) hp
  · have e' : m = 0 := by omega
    subst e' h0
    have e2 : n % 2 = 0 := by omega
    exact du_b0 hp (by simp [du_up, e2])
  · have e' : m = 0 := by omega
    subst e' h0
    have e2 : n % 2 = 1 := by omega
    exact du_b1 hp (by simp [du_up, e2])
  · have e' : m = 1 := by omega
    subst e' h0
    exact du_b1 hp (by simp [du_up])
  · have e' : m = 6 := by omega
    subst e' h0
    exact du_b0 hp (by simp [du_up])
  · have e1 : h = -1 := by omega
    have e' : m = 0 ∨ m = 1 ∨ m = 6 := by omega
    subst e1
    rcases e' with e' | e' | e'
    · subst e'
      exact du_b0 hp (by simp [du_up])
    · subst e'
      exact du_b0 hp (by simp [du_up])
    · subst e'
      exact du_b0 hp (by simp [du_up])
  · have e1 : h = 1 := by omega
    have e' : m = 0 ∨ m = 1 ∨ m = 6 := by omega
    subst e1
    rcases e' with e' | e' | e'
    · subst e'
      exact du_b1 hp (by simp [du_up])
    · subst e'
      exact du_b1 hp (by simp [du_up])
    · subst e'
      exact du_b1 hp (by simp [du_up])
theorem du_hf_b (dr un : Nat) : -1 ≤ du_hf dr un ∧ du_hf dr un ≤ 1 := by
  unfold du_hf
  split
  · omega
  · split <;> omega
theorem du_drop {post : Int32 → St1 → Prop} (hT : du_T a3) {m r k : Nat} {z s : Int} (hm : m < 7) (hk : k ≤ 18) (hr : r < 9223372036854775808) (hne : ¬ r % 10 ^ k = 0)
    (hp : post 3 (p, nI m, ra, du_s z, lN (du_q m (decide (z < 0)) r k), du_I (s + k), 0, a1, a2, a3)) : wpX_dropDigits post (p, nI m, ra, du_s z, lN r, du_I s, 0, a1, a2, a3) (nI k) := by
  have hk' := du_p18 hk
  have hpp := du_pp k
  have hdv : r / 10 ^ k ≤ r := Nat.div_le_self _ _
  have hml : r % 10 ^ k < 10 ^ k := Nat.mod_lt _ hpp
  have hne0 : ¬ lN (10 ^ k) = 0 := du_lne (du_lT hk') (b := 0) (by decide) (by omega)
  unfold wpX_dropDigits
  dsimp only
  refine nm_r (e' := du_I (s + k)) (by rw [du_In, du_Iadd]) ?_
  refine pk_le k 18 (fun _ => ⟨pk_in k 19 (by omega), ?_⟩) (fun h => absurd h (by omega))
  rw [du_Ta hT (by omega)]
  refine br_f hne0 ⟨hne0, ?_⟩
  refine br_f hne0 ⟨hne0, ?_⟩
  rw [pk_lRem (by omega) hpp (by omega), pk_lDiv (by omega) hpp (by omega)]
  refine br_f (du_lne (du_lT (by omega)) (b := 0) (by decide) (by omega)) ?_
  refine br_t rfl ?_
  refine du_half hml hk' ?_
  refine du_goes hm (by omega) (du_hf_b _ _).1 (du_hf_b _ _).2 ?_
  unfold du_q at hp
  cases hu : du_up m (decide (z < 0)) (du_hf (r % 10 ^ k) (10 ^ k)) (decide (r / 10 ^ k % 2 = 1)) with
  | false =>
    rw [hu] at hp
    exact br_t rfl (br_t rfl hp)
  | true =>
    rw [hu] at hp
    exact br_f (by decide) (nm_r (lN_1 _) (br_t rfl hp))
end
end
section
theorem du_r10 {n : Nat} (hn : n < 9223372036854775808) : (lN n - lN n / 10 * 10).toInt = ((n % 10 : Nat) : Int) := by
  have e : lN n - lN n / lN 10 * lN 10 = lN (n % 10) := pk_lRem (by omega) (by omega) (by omega)
  exact (congrArg Int64.toInt e).trans (du_lT (by omega))
theorem du_q10 {n : Nat} (hn : n < 9223372036854775808) : lN n / 10 = lN (n / 10) := pk_lDiv (b := 10) (by omega) (by omega) (by omega)
section
variable {rm ra ng sc mo : Int32} {mg : Int64} {a1 a2 : Nat → Int32} {a3 : Nat → Int64}
theorem du_app66 {post : St1 → Prop} {r D : Nat} {w s : Int} (hD : D ≤ 18) (hw1 : -100 ≤ w) (hw2 : w ≤ 100) (hs1 : w ≤ s) (hs2 : s ≤ 100) (h : s = w ∨ 4 ≤ D) (hp : post (4, rm, ra, ng, lN r, du_I s, mo, a1, a2, a3)) :
    ∃ fu, wX_approach_66 post (du_I w) 4 rm ra ng mo a1 a2 a3 fu (nI D) (lN r) (du_I s) :=
  ⟨1, du_ile (du_It (by omega) (by omega)) (du_It (by omega) (by omega)) (fun _ => hp) (fun g => du_ile (a := 4) (by decide) (du_nT (by omega)) (fun _ => hp) (fun g2 => absurd h (by omega)))⟩
theorem du_appL {post : St1 → Prop} {r D : Nat} {w : Int} (hD : du_D r D) (hr : D ≤ 4 ∨ ¬ r % 10 = 0) (hw1 : -100 ≤ w) (hw2 : w ≤ 50) : ∀ (t : Nat) (s : Int), D + t ≤ 18 → w ≤ s → s + t ≤ 100 → (t = 0 → s = w ∨ 4 ≤ D) → (0 < t → 4 ≤ D) →
    post (4, rm, ra, ng, lN r, du_I (s + t), mo, a1, a2, a3) → wX_approach_9 post (du_I w) 4 rm ra ng mo a1 a2 a3 (t + 1) (nI (D + t)) (lN (r * 10 ^ t)) (du_I s) := by
  intro t
  have hr18 : ∀ j, D + j ≤ 18 → r * 10 ^ j < 9223372036854775808 := by
    intro j hj
    have h1 : r * 10 ^ j < 10 ^ D * 10 ^ j := Nat.mul_lt_mul_of_pos_right hD.2.1 (du_pp j)
    rw [← Nat.pow_add] at h1
    exact Nat.lt_trans h1 (du_p18 hj)
  induction t with
  | zero =>
    intro s h1 h2 h3 h4 h5 hp
    have hn := hr18 0 h1
    rw [Nat.pow_zero, Nat.mul_one] at hn ⊢
    rw [show s + ((0 : Nat) : Int) = s by omega] at hp
    have ex := du_app66 (by omega) hw1 (by omega) h2 (by omega) (h4 rfl) hp
    refine ⟨by decide, du_leq (du_r10 hn) (b := 0) (by decide) (fun z => du_ilt (du_It (by omega) (by omega)) (du_It (by omega) (by omega)) (fun h => absurd h (by omega)) (fun _ => du_ile (du_nT (by omega)) (b := 4) (by decide) (fun _ => ex) (fun h => ?_))) (fun _ => ex)⟩
    exfalso
    rcases hr with e | e
    · omega
    · omega
  | succ t ih =>
    intro s h1 h2 h3 h4 h5 hp
    have hn := hr18 (t + 1) h1
    have h40 := h5 (by omega)
    refine ⟨by decide, du_leq (du_r10 hn) (b := 0) (by decide) (fun _ => du_ilt (du_It (by omega) (by omega)) (du_It (by omega) (by omega)) (fun h => absurd h (by omega)) (fun _ => du_ile (du_nT (by omega)) (b := 4) (by decide) (fun h => absurd h (by omega)) (fun _ => ⟨by decide, nm_r (e' := lN (r * 10 ^ t)) ?_ (nm_r (e' := du_I (s + 1)) ?_ (nm_r (pk_m1 (D + t)) ?_))⟩))) (fun z => ?_)⟩
    · rw [du_q10 hn, du_d10]
    · exact du_Iadd s 1
    · refine ih (s + 1) (by omega) (by omega) (by omega) (fun _ => Or.inr h40) (fun _ => h40) ?_
      rw [show s + 1 + (t : Int) = s + ((t + 1 : Nat) : Int) by omega]
      exact hp
    · rw [du_m10] at z
      exact absurd rfl z
theorem du_app {post : St1 → Prop} (hT : du_T a3) {n r t D : Nat} {w : Int} (hP : du_P n r t D) (hDt : D + t ≤ 17) (hw1 : -20 ≤ w) (hw2 : w ≤ 20) (hp : post (4, rm, ra, ng, lN r, du_I (w + t), mo, a1, a2, a3)) :
    wpX_approach post (4, rm, ra, ng, lN n, du_I w, mo, a1, a2, a3) (du_I w) := by
  have hd := du_Pdig hP
  obtain ⟨p1, p2, p3, p4⟩ := hP
  unfold wpX_approach
  dsimp only
  refine du_dig hT hd (by omega) ?_
  refine ⟨t + 1, ?_⟩
  rw [p1]
  exact du_appL p2 p4 (by omega) (by omega) t w (by omega) (by omega) (by omega) (fun _ => Or.inl rfl) (fun h => by omega) hp
theorem du_fin155 {post : Int32 → St1 → Prop} {p fl : Int32} {z s : Int} {c d : Nat} (hd : d < 6) (h1 : -20 ≤ s) (h2 : s ≤ 20) (hp : post fl (p, rm, ra ||| fl, du_s z, lN c, du_I s, mo, upd a1 d (du_I (du_sg z c)), upd a2 d (du_I s), a3)) :
    wX_finish_155 post (nI d) fl p rm ra (du_s z) (lN c) (du_I s) mo a1 a2 a3 := by
  unfold wX_finish_155
  refine du_ilt (du_It (by omega) (by omega)) (b := -20) (by decide) (fun h => absurd h (by omega)) (fun _ => du_ile (du_It (by omega) (by omega)) (b := 20) (by decide) (fun _ => ?_) (fun h => absurd h (by omega)))
  refine du_store hd (by omega) (by omega) ?_
  exact du_raise hp
theorem du_fin143 {post : Int32 → St1 → Prop} {p fl fl' : Int32} {z s w : Int} {c d : Nat} (hd : d < 6) (h1 : -20 ≤ s) (h2 : s ≤ 20) (hw1 : -20 ≤ w) (hw2 : w ≤ 20) (hf : s ≤ w → fl' = fl) (hf2 : w < s → fl' = fl ||| 2)
    (hp : post fl' (p, rm, ra ||| fl', du_s z, lN c, du_I s, mo, upd a1 d (du_I (du_sg z c)), upd a2 d (du_I s), a3)) :
    wX_finish_143 post (nI d) (du_I w) fl p rm ra (du_s z) (lN c) (du_I s) mo a1 a2 a3 := by
  unfold wX_finish_143
  refine du_ile (du_It (by omega) (by omega)) (du_It (by omega) (by omega)) (fun h => ?_) (fun h => ?_)
  · rw [hf h] at hp
    exact du_fin155 hd h1 h2 hp
  · rw [hf2 h] at hp
    exact nm_e (du_fin155 hd h1 h2 hp)
/-- finish behind the approach: r, its digits, the exponent w + t -/
theorem du_fin73 {post : Int32 → St1 → Prop} (hT : du_T a3) {m d r t D : Nat} {z w : Int} (hm : m < 7) (hd : d < 6) (hD : du_D r D) (ht : t = 0 ∨ 4 ≤ D) (hr : D ≤ 4 ∨ ¬ r % 10 = 0) (hDt : D + t ≤ 17) (hw1 : -20 ≤ w) (hw2 : w ≤ 20) (hwD : w + (D + t : Nat) ≤ 23)
    (hp : ∀ (ng' : Int32) (mg' : Int64) (sc' mo' : Int32), post (du_f t D) (4, nI m, ra ||| du_f t D, ng', mg', sc', mo', upd a1 d (du_I (du_sg z (du_c m (decide (z < 0)) r D))), upd a2 d (du_I (w + (du_e m (decide (z < 0)) r t D : Nat))), a3)) :
    wX_finish_73 post (nI d) (du_I w) 0 4 (nI m) ra (du_s z) (lN r) (du_I (w + t)) 0 a1 a2 a3 := by
  have hr63 : r < 9223372036854775808 := Nat.lt_trans hD.2.1 (du_p18 (by omega))
  unfold wX_finish_73
  refine du_dig hT hD (by omega) ?_
  refine du_ile (du_nT (by omega)) (b := 4) (by decide) (fun h => ?_) (fun h => ?_)
  · have h4 : D ≤ 4 := by omega
    have ec : du_c m (decide (z < 0)) r D = r := if_pos h4
    have ee : du_e m (decide (z < 0)) r t D = t := if_pos h4
    have ef : du_f t D = if t = 0 then 0 else 2 := if_pos h4
    rw [ec, ee, ef] at hp
    refine du_fin143 hd (by omega) (by omega) hw1 hw2 (fun g => ?_) (fun g => ?_) (hp _ _ _ _)
    · rw [if_pos (by omega)]
    · rw [if_neg (by omega)]
      decide
  · have h4 : ¬ D ≤ 4 := by omega
    have ef : du_f t D = 3 := if_neg h4
    have e5 : nI D - 4 = nI (D - 4) := pk_sub (a := D) (b := 4) (by omega)
    have hne : ¬ r % 10 ^ (D - 4) = 0 := by
      intro g
      have g2 : r % 10 ^ (D - 4) % 10 = r % 10 := Nat.mod_mod_of_dvd r (Nat.dvd_trans ⟨1, rfl⟩ (Nat.pow_dvd_pow 10 (show 1 ≤ D - 4 by omega)))
      rw [g] at g2
      rcases hr with e | e
      · omega
      · omega
    have hq := (du_q_le (m := m) (ng := decide (z < 0)) hD (by omega)).2
    rw [e5]
    refine du_drop hT hm (by omega) hr63 hne ?_
    have ec : du_c m (decide (z < 0)) r D = if du_q m (decide (z < 0)) r (D - 4) = 10000 then 1000 else du_q m (decide (z < 0)) r (D - 4) := if_neg h4
    have ee : du_e m (decide (z < 0)) r t D = if du_q m (decide (z < 0)) r (D - 4) = 10000 then t + (D - 4) + 1 else t + (D - 4) := if_neg h4
    rw [ec, ee, ef] at hp
    generalize du_q m (decide (z < 0)) r (D - 4) = q at *
    refine ⟨pk_in 4 19 (by omega), ?_⟩
    refine du_leq (du_lT (by omega)) (b := 10000) ((du_Tt hT (show 4 < 19 by omega)).trans (by decide)) (fun g => ?_) (fun g => ?_)
    · have g' : q = 10000 := by omega
      subst g'
      rw [if_pos rfl, if_pos rfl] at hp
      refine ⟨by decide, nm_r (e' := lN 1000) (du_q10 (n := 10000) (by omega)) (nm_r (e' := du_I (w + ((t + (D - 4) + 1 : Nat) : Int))) ?_ ?_)⟩
      · rw [show (1 : Int32) = du_I 1 from rfl, du_Iadd]
        exact congrArg du_I (by omega)
      · exact du_fin143 hd (by omega) (by omega) hw1 hw2 (fun g => absurd g (by omega)) (fun g => by decide) (hp _ _ _ _)
    · rw [if_neg (by omega), if_neg (by omega)] at hp
      rw [show w + (t : Int) + ((D - 4 : Nat) : Int) = w + ((t + (D - 4) : Nat) : Int) by omega]
      exact du_fin143 hd (by omega) (by omega) hw1 hw2 (fun g => absurd g (by omega)) (fun g => by decide) (hp _ _ _ _)
theorem du_finish {post : Int32 → St1 → Prop} (hT : du_T a3) {m d r t D : Nat} {z w : Int} (hm : m < 7) (hd : d < 6) (hP : du_P z.natAbs r t D) (hDt : D + t ≤ 17) (hw1 : -20 ≤ w) (hw2 : w ≤ 20) (hwD : w + (D + t : Nat) ≤ 23)
    (hp : ∀ (ng' : Int32) (mg' : Int64) (sc' mo' : Int32), post (du_f t D) (4, nI m, ra ||| du_f t D, ng', mg', sc', mo', upd a1 d (du_I (du_sg z (du_c m (decide (z < 0)) r D))), upd a2 d (du_I (w + (du_e m (decide (z < 0)) r t D : Nat))), a3)) :
    wpX_finish post (4, nI m, ra, du_s z, lN z.natAbs, du_I w, 0, a1, a2, a3) (nI d) (du_I w) := by
  have hdg := du_Pdig hP
  have hn63 : z.natAbs < 9223372036854775808 := Nat.lt_trans hdg.2.1 (du_p18 (by omega))
  unfold wpX_finish
  dsimp only
  refine du_leq (du_lT hn63) (b := 0) (by decide) (fun h => ?_) (fun h => ?_)
  · have hz : z = 0 := by omega
    subst hz
    obtain ⟨p1, ⟨q1, q2, q3⟩, p3, p4⟩ := hP
    have r0 : r = 0 := by
      rcases Nat.mul_eq_zero.mp p1.symm with e | e
      · exact e
      · have := du_pp t
        omega
    have D1 : D = 1 := by
      rcases q3 with e | e
      · exact e
      · have := du_pp (D - 1)
        omega
    have t0 : t = 0 := by omega
    subst r0 D1 t0
    refine br_t rfl (du_ile (a := -20) (by decide) (du_It (by omega) (by omega)) (fun _ => du_ile (du_It (by omega) (by omega)) (b := 20) (by decide) (fun _ => ?_) (fun g => absurd g (by omega))) (fun g => absurd g (by omega)))
    have hq := hp (du_s 0) (lN 0) (du_I w) 0
    have e0 : w + ((du_e m (decide ((0 : Int) < 0)) 0 0 1 : Nat) : Int) = w := by
      show w + ((0 : Nat) : Int) = w
      omega
    rw [e0] at hq
    unfold wX_finish_45
    refine du_store (z := 0) (c := 0) (s := w) hd (by omega) (by omega) ?_
    exact du_raise hq
  · unfold wX_finish_59
    refine br_t rfl ?_
    refine du_app hT hP hDt hw1 hw2 ?_
    exact du_fin73 hT hm hd hP.2.1 hP.2.2.1 hP.2.2.2 hDt hw1 hw2 hwD hp
theorem du_ap214 {post : Int32 → St1 → Prop} (hT : du_T a3) {m d r t D : Nat} {z w : Int} (hm : m < 7) (hd : d < 6) (hP : du_P z.natAbs r t D) (hDt : D + t ≤ 17) (hw1 : -20 ≤ w) (hw2 : w ≤ 20) (hwD : w + (D + t : Nat) ≤ 23)
    (hp : ∀ (ng' : Int32) (mg' : Int64) (sc' mo' : Int32), post (du_f t D) (4, nI m, ra ||| du_f t D, ng', mg', sc', mo', upd a1 d (du_I (du_sg z (du_c m (decide (z < 0)) r D))), upd a2 d (du_I (w + (du_e m (decide (z < 0)) r t D : Nat))), a3)) :
    wX_apply_214 post (nI d) (du_I w) 4 (nI m) ra (du_s z) (lN z.natAbs) (du_I w) 0 a1 a2 a3 := by
  unfold wX_apply_214
  exact du_finish hT hm hd hP hDt hw1 hw2 hwD hp
/-- what an operation's exact result is -/
def du_V (o : Nat) (x e y f : Int) : Int := if o = 2 then x * y else du_V2 x e (if o = 0 then y else -y) f
def du_w (o : Nat) (e f : Int) : Int := if o = 2 then e + f else du_mn e f
theorem du_V2b {x e y f : Int} (hx1 : -9999 ≤ x) (hx2 : x ≤ 9999) (hy1 : -9999 ≤ y) (hy2 : y ≤ 9999) : (du_V2 x e y f).natAbs < 10 ^ (5 + ((e - f).toNat + (f - e).toNat)) := by
  have h1 := du_bnd hx1 hx2 (show (e - f).toNat ≤ (e - f).toNat + (f - e).toNat by omega)
  have h2 := du_bnd hy1 hy2 (show (f - e).toNat ≤ (e - f).toNat + (f - e).toNat by omega)
  have h3 := Int.natAbs_add_le (x * ((10 ^ (e - f).toNat : Nat) : Int)) (y * ((10 ^ (f - e).toNat : Nat) : Int))
  have h4 := du_pp ((e - f).toNat + (f - e).toNat)
  unfold du_V2
  rw [Nat.pow_add 10 5, show 10 ^ 5 = 100000 from rfl]
  omega
theorem du_Vb {o : Nat} {x e y f : Int} (hx1 : -9999 ≤ x) (hx2 : x ≤ 9999) (hy1 : -9999 ≤ y) (hy2 : y ≤ 9999) (he1 : -6 ≤ e) (he2 : e ≤ 6) (hf1 : -6 ≤ f) (hf2 : f ≤ 6) :
    ∃ r t D, du_P (du_V o x e y f).natAbs r t D ∧ D + t ≤ 17 ∧ -20 ≤ du_w o e f ∧ du_w o e f ≤ 20 ∧ du_w o e f + (D + t : Nat) ≤ 23 := by
  by_cases h : o = 2
  · have hv : du_V o x e y f = x * y := if_pos h
    have hw : du_w o e f = e + f := if_pos h
    have hb : (du_V o x e y f).natAbs < 10 ^ 8 := by
      rw [hv, Int.natAbs_mul]
      exact Nat.lt_of_le_of_lt (Nat.mul_le_mul (show x.natAbs ≤ 9999 by omega) (show y.natAbs ≤ 9999 by omega)) (by decide)
    obtain ⟨r, t, D, hP, hK⟩ := du_exP 8 _ (by omega) hb
    exact ⟨r, t, D, hP, by omega, by omega, by omega, by omega⟩
  · have hv : du_V o x e y f = du_V2 x e (if o = 0 then y else -y) f := if_neg h
    have hw : du_w o e f = du_mn e f := if_neg h
    have hb : (du_V o x e y f).natAbs < 10 ^ (5 + ((e - f).toNat + (f - e).toNat)) := by
      rw [hv]
      by_cases g : o = 0
      · rw [if_pos g]
        exact du_V2b hx1 hx2 hy1 hy2
      · rw [if_neg g]
        exact du_V2b hx1 hx2 (by omega) (by omega)
    obtain ⟨r, t, D, hP, hK⟩ := du_exP _ _ (by omega) hb
    unfold du_mn at hw
    refine ⟨r, t, D, hP, by omega, ?_, ?_, ?_⟩
    · rw [hw]
      split <;> omega
    · rw [hw]
      split <;> omega
    · rw [hw]
      split <;> omega
theorem du_ap180 {post : Int32 → St1 → Prop} (hT : du_T a3) {m o d a b r t D : Nat} {x e y f : Int} (hm : m < 7) (ho : o < 2) (hd : d < 6) (ha : a < 6) (hb : b < 6)
    (hx1 : -9999 ≤ x) (hx2 : x ≤ 9999) (hy1 : -9999 ≤ y) (hy2 : y ≤ 9999) (he1 : -6 ≤ e) (he2 : e ≤ 6) (hf1 : -6 ≤ f) (hf2 : f ≤ 6) (he : a2 a = du_I e) (hf : a2 b = du_I f)
    (hP : du_P (du_V o x e y f).natAbs r t D) (hDt : D + t ≤ 17) (hw1 : -20 ≤ du_w o e f) (hw2 : du_w o e f ≤ 20) (hwD : du_w o e f + (D + t : Nat) ≤ 23)
    (hp : ∀ (ng' : Int32) (mg' : Int64) (sc' mo' : Int32), post (du_f t D) (4, nI m, ra ||| du_f t D, ng', mg', sc', mo', upd a1 d (du_I (du_sg (du_V o x e y f) (du_c m (decide (du_V o x e y f < 0)) r D))), upd a2 d (du_I (du_w o e f + (du_e m (decide (du_V o x e y f < 0)) r t D : Nat))), a3)) :
    wX_apply_180 post (nI o) (nI d) (nI a) (nI b) (du_L x) (du_L y) (du_I (du_w o e f)) 4 (nI m) ra ng mg sc mo a1 a2 a3 := by
  have ea : a2 (nI a).toNatClampNeg = du_I e := by
    rw [nI_clamp (by omega)]
    exact he
  have eb : a2 (nI b).toNatClampNeg = du_I f := by
    rw [nI_clamp (by omega)]
    exact hf
  have ew : du_w o e f = du_mn e f := if_neg (by omega)
  have ev : du_V o x e y f = du_V2 x e (if o = 0 then y else -y) f := if_neg (by omega)
  unfold wX_apply_180
  rw [ea]
  refine ⟨pk_in a 6 ha, pk_eq o 1 (fun h => ?_) (fun h => ?_)⟩
  · unfold wX_apply_204
    rw [eb, du_Lneg]
    have e1 : (if o = 0 then y else -y) = -y := if_neg (by omega)
    rw [e1] at ev
    refine ⟨pk_in b 6 hb, du_sum hT hx1 hx2 (by omega) (by omega) he1 he2 hf1 hf2 ?_⟩
    rw [← ev, ← ew]
    exact du_ap214 hT hm hd hP hDt hw1 hw2 hwD hp
  · unfold wX_apply_204
    rw [eb]
    have e1 : (if o = 0 then y else -y) = y := if_pos (by omega)
    rw [e1] at ev
    refine ⟨pk_in b 6 hb, du_sum hT hx1 hx2 (by omega) (by omega) he1 he2 hf1 hf2 ?_⟩
    rw [← ev, ← ew]
    exact du_ap214 hT hm hd hP hDt hw1 hw2 hwD hp
theorem du_apply {post : Int32 → St1 → Prop} (hT : du_T a3) {m o d a b r t D : Nat} {x e y f : Int} (hm : m < 7) (ho : o < 3) (hd : d < 6) (ha : a < 6) (hb : b < 6)
    (hx1 : -9999 ≤ x) (hx2 : x ≤ 9999) (hy1 : -9999 ≤ y) (hy2 : y ≤ 9999) (he1 : -6 ≤ e) (he2 : e ≤ 6) (hf1 : -6 ≤ f) (hf2 : f ≤ 6) (hx : a1 a = du_I x) (hy : a1 b = du_I y) (he : a2 a = du_I e) (hf : a2 b = du_I f)
    (hP : du_P (du_V o x e y f).natAbs r t D) (hDt : D + t ≤ 17) (hw1 : -20 ≤ du_w o e f) (hw2 : du_w o e f ≤ 20) (hwD : du_w o e f + (D + t : Nat) ≤ 23)
    (hp : ∀ (ng' : Int32) (mg' : Int64) (sc' mo' : Int32), post (du_f t D) (4, nI m, ra ||| du_f t D, ng', mg', sc', mo', upd a1 d (du_I (du_sg (du_V o x e y f) (du_c m (decide (du_V o x e y f < 0)) r D))), upd a2 d (du_I (du_w o e f + (du_e m (decide (du_V o x e y f < 0)) r t D : Nat))), a3)) :
    wpX_apply post (4, nI m, ra, ng, mg, sc, mo, a1, a2, a3) (nI o) (nI d) (nI a) (nI b) := by
  have ea : a2 (nI a).toNatClampNeg = du_I e := by
    rw [nI_clamp (by omega)]
    exact he
  have eb : a2 (nI b).toNatClampNeg = du_I f := by
    rw [nI_clamp (by omega)]
    exact hf
  have exa : (a1 (nI a).toNatClampNeg).toInt64 = du_L x := by
    rw [nI_clamp (by omega), hx]
    exact du_IL (by omega) (by omega)
  have eyb : (a1 (nI b).toNatClampNeg).toInt64 = du_L y := by
    rw [nI_clamp (by omega), hy]
    exact du_IL (by omega) (by omega)
  unfold wpX_apply
  dsimp only
  refine pk_lt o 0 (fun h => absurd h (by omega)) (fun _ => pk_lt 3 o (fun h => absurd h (by omega)) (fun _ => ?_))
  refine du_isreg hd ?_
  refine br_f (by decide) ?_
  refine du_isreg ha ?_
  refine br_f (by decide) ?_
  refine du_isreg hb ?_
  refine br_f (by decide) ?_
  refine pk_eq o 3 (fun h => absurd h (by omega)) (fun _ => ?_)
  unfold wX_apply_57
  refine ⟨pk_in a 6 ha, nm_r exa ⟨pk_in b 6 hb, nm_r eyb ?_⟩⟩
  rw [ea, eb]
  refine pk_eq o 2 (fun h => ⟨pk_in a 6 ha, pk_in b 6 hb, nm_r (du_Iadd e f) ?_⟩) (fun h => pk_eq o 3 (fun g => absurd g (by omega)) (fun _ => ⟨pk_in a 6 ha, pk_in b 6 hb, ?_⟩))
  · have ev : du_V o x e y f = x * y := if_pos h
    have ew : du_w o e f = e + f := if_pos h
    rw [du_Lmul, ← ev, ← ew]
    have hdg := (du_Pdig hP).2.1
    have hlt := du_p18 (show D + t ≤ 18 by omega)
    exact du_take (by omega) (by omega) (du_ap214 hT hm hd hP hDt hw1 hw2 hwD hp)
  · have ew : du_w o e f = du_mn e f := if_neg h
    refine du_ile (du_It (by omega) (by omega)) (du_It (by omega) (by omega)) (fun g => ⟨pk_in b 6 hb, ?_⟩) (fun g => ⟨pk_in a 6 ha, ?_⟩)
    · have em : du_w o e f = f := by
        rw [ew]
        exact if_neg (by omega)
      have := du_ap180 (ng := ng) (mg := mg) (sc := sc) (mo := mo) hT hm (show o < 2 by omega) hd ha hb hx1 hx2 hy1 hy2 he1 he2 hf1 hf2 he hf hP hDt hw1 hw2 hwD hp
      rw [em] at this
      exact this
    · have em : du_w o e f = e := by
        rw [ew]
        exact if_pos (by omega)
      have := du_ap180 (ng := ng) (mg := mg) (sc := sc) (mo := mo) hT hm (show o < 2 by omega) hd ha hb hx1 hx2 hy1 hy2 he1 he2 hf1 hf2 he hf hP hDt hw1 hw2 hwD hp
      rw [em] at this
      exact this
end
end
section
theorem du_power {post : Int64 → Prop} {k : Nat} (hk : k < 2147483648) (hp : post (lN (10 ^ k))) : wpL_power post () (nI k) := by
  unfold wpL_power
  exact pk_loop (σ := Unit) (fun n i _ => wL_power_4 post (nI k) n (lN (10 ^ i)) (nI i)) (fun _ _ => True) k 0 () (by omega) trivial
    (fun n _ _ => pk_le k k (fun _ => hp) (fun z => absurd z (by omega)))
    (fun n i _ hi _ hw => pk_le k i (fun z => absurd z (by omega)) (fun _ => nm_r (e' := lN (10 ^ (i + 1))) (by rw [Nat.pow_succ]; exact lN_mul _ 10) (nm_r (nI_1 i) (hw () trivial))))
theorem du_r63 {r j D : Nat} (h : r < 10 ^ D) (hj : D + j ≤ 18) : r * 10 ^ j < 9223372036854775808 := by
  have h1 : r * 10 ^ j < 10 ^ D * 10 ^ j := Nat.mul_lt_mul_of_pos_right h (du_pp j)
  rw [← Nat.pow_add] at h1
  exact Nat.lt_trans h1 (du_p18 hj)
theorem du_raisedL {post : Int32 → Prop} {r D : Nat} (hD : du_D r D) (hr : D ≤ 4 ∨ ¬ r % 10 = 0) (hp : post (if D ≤ 4 then 2 else 3)) : ∀ (j t : Nat), j ≤ 16 → t ≤ j → D + t ≤ 17 → (t = 0 ∨ 4 ≤ D) → wL_raised_26 post (j + 1) (lN (r * 10 ^ t)) (nI (16 - j)) := by
  intro j
  induction j with
  | zero =>
    intro t h1 h2 h3 h4
    have t0 : t = 0 := by omega
    subst t0
    have hn := du_r63 hD.2.1 (show D + 0 ≤ 18 by omega)
    have h4 := du_D4 hD
    rw [Nat.pow_zero, Nat.mul_one] at hn ⊢
    refine pk_le 16 16 (fun _ => du_lle (a := 10000) (by decide) (du_lT hn) (fun h => ?_) (fun h => ?_)) (fun h => absurd h (by omega))
    · rw [if_neg (by omega)] at hp
      exact hp
    · rw [if_pos (by omega)] at hp
      exact hp
  | succ j ih =>
    intro t h1 h2 h3 h4
    have hP : du_P (r * 10 ^ t) r t D := ⟨rfl, hD, h4, hr⟩
    have hlt := du_Plt hP
    have hn := du_r63 hD.2.1 (show D + t ≤ 18 by omega)
    have es : nI (16 - (j + 1)) + 1 = nI (16 - j) := by
      rw [nI_1]
      exact congrArg nI (by omega)
    refine pk_le 16 (16 - (j + 1)) (fun h => absurd h (by omega)) (fun _ => du_llt (du_lT hn) (b := 10000) (by decide) (fun h => nm_r es ?_) (fun h => ⟨by decide, du_leq (du_r10 hn) (b := 0) (by decide) (fun z => ⟨by decide, ?_⟩) (fun z => nm_r es ?_)⟩))
    · exact ih t (by omega) (by omega) (by omega) h4
    · rcases Nat.eq_zero_or_pos t with e | e
      · subst e
        rw [Nat.pow_zero, Nat.mul_one] at z hlt h
        exfalso
        rcases hr with g | g
        · omega
        · omega
      · obtain ⟨u, rfl⟩ : ∃ u, t = u + 1 := ⟨t - 1, by omega⟩
        exact nm_r (e' := lN (r * 10 ^ u)) (by rw [du_q10 hn, du_d10]) (nm_r es (ih u (by omega) (by omega) (by omega) (by omega)))
    · rcases Nat.eq_zero_or_pos t with e | e
      · exact ih t (by omega) (by omega) (by omega) h4
      · obtain ⟨u, rfl⟩ : ∃ u, t = u + 1 := ⟨t - 1, by omega⟩
        rw [du_m10] at z
        exact absurd rfl z
theorem du_raised {post : Int32 → Prop} {z : Int} {r t D : Nat} (hP : du_P z.natAbs r t D) (hDt : D + t ≤ 17) (hp : post (du_f t D)) : wpL_raised post () (du_L z) := by
  have hdg := (du_Pdig hP).2.1
  have hlt := du_p18 (show D + t ≤ 18 by omega)
  have h4 := du_Plt hP
  have key : wL_raised_12 post (lN z.natAbs) := by
    unfold wL_raised_12
    refine du_lle (a := 10000) (by decide) (du_lT (by omega)) (fun h => ⟨17, ?_⟩) (fun h => ?_)
    · have ef : du_f t D = if D ≤ 4 then 2 else 3 := by
        unfold du_f
        by_cases g : D ≤ 4
        · rw [if_pos g, if_pos g, if_neg (by omega)]
        · rw [if_neg g, if_neg g]
      rw [ef] at hp
      rw [hP.1]
      have h1 := hP.2.1.1
      exact du_raisedL hP.2.1 hP.2.2.2 hp 16 t (by omega) (by have := hP.2.2.1; omega) hDt hP.2.2.1
    · have ef : du_f t D = 0 := by
        unfold du_f
        rw [if_pos (by omega), if_pos (by omega)]
      rw [ef] at hp
      exact hp
  unfold wpL_raised
  refine du_lle (a := 0) (by decide) (du_Lt (by omega) (by omega)) (fun h => ?_) (fun h => ?_)
  · rw [du_abs_p h]
    exact key
  · rw [du_abs_n h]
    exact key
theorem du_lup {post : Int32 → Prop} {m : Nat} {b od : Bool} {h : Int} (hm : m < 7) (h1 : -1 ≤ h) (h2 : h ≤ 1) (hp : post (du_bi (du_up m b h od))) : wpL_up post () (nI m) (du_bi b) (du_I h) (du_bi od) := by
  have hM : (nI m).toInt = (m : Int) := du_nT (by omega)
  have hH : (du_I h).toInt = h := du_It (by omega) (by omega)
  unfold wpL_up
  refine du_ieq hM (b := 0) (by decide) (fun e => du_ilt (a := 0) (by decide) hH (fun g => ?_) (fun g => du_ieq hH (b := 0) (by decide) (fun g2 => ?_) (fun g2 => ?_))) (fun n0 => du_ieq hM (b := 1) (by decide) (fun e => du_ilt hH (b := 0) (by decide) (fun g => ?_) (fun g => ?_)) (fun n1 =>
    du_ieq hM (b := 2) (by decide) (fun e => ?_) (fun n2 => du_ieq hM (b := 3) (by decide) (fun e => ?_) (fun n3 => du_ieq hM (b := 4) (by decide) (fun e => ?_) (fun n4 => du_ieq hM (b := 5) (by decide) (fun e => ?_) (fun n5 => du_ile hH (b := 0) (by decide) (fun g => ?_) (fun g => ?_)))))))
  · have e' : m = 0 := by omega
    subst e'
    exact du_b1 hp (by simp [du_up, g])
  · have e' : m = 0 := by omega
    subst e' g2
    cases od
    · exact br_t rfl (du_b0 hp (by simp [du_up]))
    · exact br_f (by decide) (du_b1 hp (by simp [du_up]))
  · have e' : m = 0 := by omega
    have e1 : h = -1 := by omega
    subst e' e1
    exact du_b0 hp (by simp [du_up])
  · have e' : m = 1 := by omega
    have e1 : h = -1 := by omega
    subst e' e1
    exact du_b0 hp (by simp [du_up])
  · have e' : m = 1 := by omega
    subst e'
    exact du_b1 hp (by simp [du_up, g])
  · have e' : m = 2 := by omega
    subst e'
    exact hp
  · have e' : m = 3 := by omega
    subst e'
    exact hp
  · have e' : m = 4 := by omega
    subst e'
    cases b
    · exact ⟨rfl, hp⟩
    · exact ⟨rfl, hp⟩
  · have e' : m = 5 := by omega
    subst e'
    cases b
    · exact br_t rfl hp
    · exact br_f (by decide) hp
  · have e' : m = 6 := by omega
    have g' : ¬ 0 < h := by omega
    subst e'
    exact du_b0 hp (by simp [du_up, g'])
  · have e' : m = 6 := by omega
    subst e'
    exact du_b1 hp (by simp [du_up, g])
section
variable {post : Int32 → Prop} {z : Int}
theorem du_fd243 {c : Nat} {s : Int} (hz1 : -9223372036854775808 ≤ z) (hz2 : z < 9223372036854775808) (hp : post (du_pk (du_sg z c) s)) : wL_finished_243 post (du_L z) (lN c) (du_I s) := by
  unfold wL_finished_243
  refine du_lle (a := 0) (by decide) (du_Lt hz1 hz2) (fun h => ?_) (fun h => ?_)
  · unfold wL_finished_257
    rw [du_sg_p (z := z) (by omega), show (256 : Int32) = du_I 256 from rfl, show (100 : Int32) = du_I 100 from rfl, du_Imul, du_Iadd, du_Iadd]
    exact hp
  · unfold wL_finished_257
    rw [du_sg_n (z := z) h, show (256 : Int32) = du_I 256 from rfl, show (100 : Int32) = du_I 100 from rfl, du_Imul, du_Iadd, du_Iadd]
    exact hp
theorem du_fd219 {q k : Nat} {s : Int} (hz1 : -9223372036854775808 ≤ z) (hz2 : z < 9223372036854775808) (hq : q ≤ 10000) (hp : post (du_pk (du_sg z (if q = 10000 then 1000 else q)) (if q = 10000 then s + k + 1 else s + k))) :
    wL_finished_219 post (du_L z) (lN q) (du_I s) (nI k) := by
  unfold wL_finished_219
  refine nm_r (e' := du_I (s + k)) (by rw [du_In, du_Iadd]) ?_
  refine du_leq (du_lT (by omega)) (b := 10000) (by decide) (fun h => nm_r (e' := du_I (s + k + 1)) (du_Iadd (s + k) 1) ?_) (fun h => ?_)
  · rw [if_pos (by omega), if_pos (by omega)] at hp
    exact du_fd243 (c := 1000) hz1 hz2 hp
  · rw [if_neg (by omega), if_neg (by omega)] at hp
    exact du_fd243 hz1 hz2 hp
theorem du_q_0 {m r k : Nat} {b : Bool} (hu : du_up m b (du_hf (r % 10 ^ k) (10 ^ k)) (decide (r / 10 ^ k % 2 = 1)) = false) : du_q m b r k = r / 10 ^ k := by
  unfold du_q
  rw [hu]
  rfl
theorem du_q_1 {m r k : Nat} {b : Bool} (hu : du_up m b (du_hf (r % 10 ^ k) (10 ^ k)) (decide (r / 10 ^ k % 2 = 1)) = true) : du_q m b r k = r / 10 ^ k + 1 := by
  unfold du_q
  rw [hu]
  rfl
theorem du_fd165 {m r k : Nat} {s : Int} (hz1 : -9223372036854775808 ≤ z) (hz2 : z < 9223372036854775808) (hm : m < 7) (hk : k ≤ 18) (hr : r < 9223372036854775808) (hq : du_q m (decide (z < 0)) r k ≤ 10000)
    (hp : post (du_pk (du_sg z (if du_q m (decide (z < 0)) r k = 10000 then 1000 else du_q m (decide (z < 0)) r k)) (if du_q m (decide (z < 0)) r k = 10000 then s + k + 1 else s + k))) :
    wL_finished_165 post (du_L z) (nI m) (lN r) (du_I s) (nI k) (du_I (du_hf (r % 10 ^ k) (10 ^ k))) := by
  have hk' := du_p18 hk
  have hpp := du_pp k
  have hdv : r / 10 ^ k ≤ r := Nat.div_le_self _ _
  have hne0 : ¬ lN (10 ^ k) = 0 := du_lne (du_lT hk') (b := 0) (by decide) (by omega)
  have key2 : ∀ od, od = decide (r / 10 ^ k % 2 = 1) → wL_finished_207 post (du_L z) (lN (r / 10 ^ k)) (du_I s) (nI k) (du_bi od) (du_I (du_hf (r % 10 ^ k) (10 ^ k))) (du_bi (decide (z < 0))) (nI m) := by
    intro od hod
    subst hod
    unfold wL_finished_207
    refine du_lup hm (du_hf_b _ _).1 (du_hf_b _ _).2 ?_
    cases hu : du_up m (decide (z < 0)) (du_hf (r % 10 ^ k) (10 ^ k)) (decide (r / 10 ^ k % 2 = 1)) with
    | false =>
      rw [du_q_0 hu] at hp hq
      exact br_t rfl (du_fd219 hz1 hz2 hq hp)
    | true =>
      rw [du_q_1 hu] at hp hq
      exact br_f (by decide) (nm_r (lN_1 _) (du_fd219 hz1 hz2 hq hp))
  have key : ∀ b, b = decide (z < 0) → wL_finished_189 post (du_L z) (lN (r / 10 ^ k)) (du_I s) (nI k) (du_I (du_hf (r % 10 ^ k) (10 ^ k))) (du_bi b) (nI m) := by
    intro b hb
    subst hb
    unfold wL_finished_189
    have e2 : lN (r / 10 ^ k) - lN (r / 10 ^ k) / lN 2 * lN 2 = lN (r / 10 ^ k % 2) := pk_lRem (by omega) (by omega) (by omega)
    refine ⟨by decide, du_leq (a := ((r / 10 ^ k % 2 : Nat) : Int)) ((congrArg Int64.toInt e2).trans (du_lT (by omega))) (b := 1) (by decide) (fun h => ?_) (fun h => ?_)⟩
    · exact key2 true (decide_eq_true (by omega)).symm
    · exact key2 false (decide_eq_false (by omega)).symm
  unfold wL_finished_165
  refine du_power (by omega) ?_
  refine ⟨hne0, nm_r (pk_lDiv (by omega) hpp (by omega)) ?_⟩
  refine du_lle (a := 0) (by decide) (du_Lt hz1 hz2) (fun h => ?_) (fun h => ?_)
  · exact key false (decide_eq_false (by omega)).symm
  · exact key true (decide_eq_true h).symm
theorem du_fd80 {m r t D : Nat} {w : Int} (hz1 : -9223372036854775808 ≤ z) (hz2 : z < 9223372036854775808) (hm : m < 7) (hD : du_D r D) (hD17 : D ≤ 17)
    (hp : post (du_pk (du_sg z (du_c m (decide (z < 0)) r D)) (w + (du_e m (decide (z < 0)) r t D : Nat)))) :
    ∀ i, i ≤ 16 → ∀ x7 : Nat, (i = 16 ∧ x7 = 0 ∨ (x7 = i + 1 ∧ D ≤ i + 5) ∨ (x7 + 4 = D ∧ i + 5 ≤ D)) → wL_finished_80 post (du_L z) (nI m) (lN r) (du_I (w + t)) (i + 1) (nI x7) (nI i) := by
  have hr63 : r < 9223372036854775808 := Nat.lt_trans hD.2.1 (du_p18 (by omega))
  have h4 := du_D4 hD
  intro i
  induction i with
  | zero =>
    intro _ x7 hx
    refine pk_lt 0 1 (fun _ => du_llt (du_lT hr63) (b := 10000) (by decide) (fun h => ?_) (fun h => ?_)) (fun h => absurd h (by omega))
    · have h4' : D ≤ 4 := by omega
      have ec : du_c m (decide (z < 0)) r D = r := if_pos h4'
      have ee : du_e m (decide (z < 0)) r t D = t := if_pos h4'
      rw [ec, ee] at hp
      exact du_fd243 hz1 hz2 hp
    · have h4' : ¬ D ≤ 4 := by omega
      have ex : x7 = D - 4 := by omega
      subst ex
      have hq := (du_q_le (m := m) (ng := decide (z < 0)) hD (by omega)).2
      have ec : du_c m (decide (z < 0)) r D = if du_q m (decide (z < 0)) r (D - 4) = 10000 then 1000 else du_q m (decide (z < 0)) r (D - 4) := if_neg h4'
      have ee : du_e m (decide (z < 0)) r t D = if du_q m (decide (z < 0)) r (D - 4) = 10000 then t + (D - 4) + 1 else t + (D - 4) := if_neg h4'
      have hk' := du_p18 (show D - 4 ≤ 18 by omega)
      have hpp := du_pp (D - 4)
      have hml : r % 10 ^ (D - 4) < 10 ^ (D - 4) := Nat.mod_lt _ hpp
      have hmr : r % 10 ^ (D - 4) ≤ r := Nat.mod_le _ _
      have hne0 : ¬ lN (10 ^ (D - 4)) = 0 := du_lne (du_lT hk') (b := 0) (by decide) (by omega)
      have fin : wL_finished_165 post (du_L z) (nI m) (lN r) (du_I (w + t)) (nI (D - 4)) (du_I (du_hf (r % 10 ^ (D - 4)) (10 ^ (D - 4)))) := by
        refine du_fd165 hz1 hz2 hm (by omega) hr63 hq ?_
        rw [ec, ee] at hp
        generalize du_q m (decide (z < 0)) r (D - 4) = q at *
        by_cases g : q = 10000
        · rw [if_pos g, if_pos g] at hp
          rw [if_pos g, if_pos g, show w + (t : Int) + ((D - 4 : Nat) : Int) + 1 = w + ((t + (D - 4) + 1 : Nat) : Int) by omega]
          exact hp
        · rw [if_neg g, if_neg g] at hp
          rw [if_neg g, if_neg g, show w + (t : Int) + ((D - 4 : Nat) : Int) = w + ((t + (D - 4) : Nat) : Int) by omega]
          exact hp
      have h2p : 10 ^ (D - 4) ≤ 10 ^ 13 := du_pm (by omega)
      have e13 : 10 ^ 13 = 10000000000000 := by decide
      refine du_power (by omega) ?_
      refine ⟨hne0, nm_r (e' := lN (r % 10 ^ (D - 4) * 2)) (by rw [pk_lRem (by omega) hpp (by omega)]; exact lN_mul _ 2) ?_⟩
      refine du_power (by omega) ?_
      refine du_lle (du_lT hk') (du_lT (by omega)) (fun g => ?_) (fun g => ?_)
      · refine du_power (by omega) ?_
        refine du_leq (du_lT (by omega)) (du_lT hk') (fun g2 => ?_) (fun g2 => ?_)
        · have e : du_hf (r % 10 ^ (D - 4)) (10 ^ (D - 4)) = 0 := by
            unfold du_hf
            rw [if_neg (by omega), if_pos (by omega)]
          rw [e] at fin
          exact fin
        · have e : du_hf (r % 10 ^ (D - 4)) (10 ^ (D - 4)) = 1 := by
            unfold du_hf
            rw [if_neg (by omega), if_neg (by omega)]
          rw [e] at fin
          exact fin
      · have e : du_hf (r % 10 ^ (D - 4)) (10 ^ (D - 4)) = -1 := by
          unfold du_hf
          rw [if_pos (by omega)]
        rw [e, show du_I (-1) = -1 by decide] at fin
        exact fin
  | succ i ih =>
    intro hi x7 hx
    have hk' := du_p18 (show i + 1 ≤ 18 by omega)
    have hpp := du_pp (i + 1)
    have hdv : r / 10 ^ (i + 1) ≤ r := Nat.div_le_self _ _
    have hne0 : ¬ lN (10 ^ (i + 1)) = 0 := du_lne (du_lT hk') (b := 0) (by decide) (by omega)
    have hcmp : 10000 ≤ r / 10 ^ (i + 1) ↔ i + 6 ≤ D := by
      rw [Nat.le_div_iff_mul_le hpp, show (10000 : Nat) = 10 ^ 4 from rfl, ← Nat.pow_add]
      constructor
      · intro g
        rcases Nat.lt_or_ge D (i + 6) with e | e
        · have h1 := du_pm (show D ≤ 4 + (i + 1) by omega)
          have h2 := hD.2.1
          omega
        · exact e
      · intro g
        rcases hD.2.2 with e | e
        · omega
        · exact Nat.le_trans (du_pm (show 4 + (i + 1) ≤ D - 1 by omega)) e
    refine pk_lt (i + 1) 1 (fun h => absurd h (by omega)) (fun _ => ?_)
    refine du_power (by omega) ?_
    refine ⟨hne0, ?_⟩
    rw [pk_lDiv (by omega) hpp (by omega)]
    refine du_lle (a := 10000) (by decide) (du_lT (by omega)) (fun h => nm_r (pk_m1 i) ?_) (fun h => nm_r (pk_m1 i) ?_)
    · exact ih (by omega) x7 (by omega)
    · exact ih (by omega) (i + 1) (by omega)
theorem du_fd29 {m r D : Nat} {s0 : Int} (hD : du_D r D) (hr : D ≤ 4 ∨ ¬ r % 10 = 0) (H : ∃ fu, wL_finished_80 post (du_L z) (nI m) (lN r) (du_I s0) fu 0 16) : ∀ (j t : Nat) (s : Int), j ≤ 16 → t ≤ j → D + t ≤ 17 → (t = 0 ∨ 4 ≤ D) → s + t = s0 →
    wL_finished_29 post (du_L z) (nI m) (j + 1) (lN (r * 10 ^ t)) (du_I s) (nI (16 - j)) := by
  intro j
  induction j with
  | zero =>
    intro t s h1 h2 h3 h4 h5
    have t0 : t = 0 := by omega
    subst t0
    have hs : s = s0 := by omega
    subst hs
    rw [Nat.pow_zero, Nat.mul_one]
    exact pk_le 16 16 (fun _ => H) (fun h => absurd h (by omega))
  | succ j ih =>
    intro t s h1 h2 h3 h4 h5
    have hP : du_P (r * 10 ^ t) r t D := ⟨rfl, hD, h4, hr⟩
    have hlt := du_Plt hP
    have hn := du_r63 hD.2.1 (show D + t ≤ 18 by omega)
    have es : nI (16 - (j + 1)) + 1 = nI (16 - j) := by
      rw [nI_1]
      exact congrArg nI (by omega)
    refine pk_le 16 (16 - (j + 1)) (fun h => absurd h (by omega)) (fun _ => du_llt (du_lT hn) (b := 10000) (by decide) (fun h => nm_r es ?_) (fun h => ⟨by decide, du_leq (du_r10 hn) (b := 0) (by decide) (fun g => ⟨by decide, ?_⟩) (fun g => nm_r es ?_)⟩))
    · exact ih t s (by omega) (by omega) (by omega) h4 h5
    · rcases Nat.eq_zero_or_pos t with e | e
      · subst e
        rw [Nat.pow_zero, Nat.mul_one] at g hlt h
        exfalso
        rcases hr with k | k
        · omega
        · omega
      · obtain ⟨u, rfl⟩ : ∃ u, t = u + 1 := ⟨t - 1, by omega⟩
        exact nm_r (e' := lN (r * 10 ^ u)) (by rw [du_q10 hn, du_d10]) (nm_r (e' := du_I (s + 1)) (du_Iadd s 1) (nm_r es (ih u (s + 1) (by omega) (by omega) (by omega) (by omega) (by omega))))
    · rcases Nat.eq_zero_or_pos t with e | e
      · exact ih t s (by omega) (by omega) (by omega) h4 h5
      · obtain ⟨u, rfl⟩ : ∃ u, t = u + 1 := ⟨t - 1, by omega⟩
        rw [du_m10] at g
        exact absurd rfl g
theorem du_finished {m r t D : Nat} {w : Int} (hm : m < 7) (hP : du_P z.natAbs r t D) (hDt : D + t ≤ 17)
    (hp : post (du_pk (du_sg z (du_c m (decide (z < 0)) r D)) (w + (du_e m (decide (z < 0)) r t D : Nat)))) : wpL_finished post () (du_L z) (du_I w) (nI m) := by
  have hdg := (du_Pdig hP).2.1
  have hlt := du_p18 (show D + t ≤ 18 by omega)
  have h4 := du_Plt hP
  have hz1 : -9223372036854775808 ≤ z := by omega
  have hz2 : z < 9223372036854775808 := by omega
  have key : wL_finished_12 post (du_L z) (du_I w) (nI m) (lN z.natAbs) := by
    unfold wL_finished_12
    refine du_llt (du_lT (by omega)) (b := 10000) (by decide) (fun h => ?_) (fun h => ?_)
    · have h4' : D ≤ 4 := by omega
      have t0 : t = 0 := by omega
      subst t0
      have ec : du_c m (decide (z < 0)) r D = r := if_pos h4'
      have ee : du_e m (decide (z < 0)) r 0 D = 0 := if_pos h4'
      have en : z.natAbs = r := by
        have := hP.1
        rw [Nat.pow_zero, Nat.mul_one] at this
        exact this
      rw [ec, ee, show w + ((0 : Nat) : Int) = w by omega] at hp
      rw [en]
      exact du_fd243 hz1 hz2 hp
    · have h1 := hP.2.1.1
      have h3 := hP.2.2.1
      rw [hP.1]
      exact ⟨17, du_fd29 hP.2.1 hP.2.2.2 ⟨17, du_fd80 hz1 hz2 hm hP.2.1 (by omega) hp 16 (by omega) 0 (Or.inl ⟨rfl, rfl⟩)⟩ 16 t w (by omega) (by omega) hDt h3 rfl⟩
  unfold wpL_finished
  refine du_lle (a := 0) (by decide) (du_Lt hz1 hz2) (fun h => ?_) (fun h => ?_)
  · rw [← du_abs_p h] at key
    exact key
  · rw [← du_abs_n h] at key
    exact key
end
end
section
/-- the registers, as the law knows them -/
def du_R (c e : Nat → Int) (a1 a2 : Nat → Int32) : Prop := ∀ i, i < 3 → -9999 ≤ c i ∧ c i ≤ 9999 ∧ -20 ≤ e i ∧ e i ≤ 20 ∧ a1 i = du_I (c i) ∧ a2 i = du_I (e i)
def du_g (c e : Nat → Int) (i : Nat) : Int32 := du_pk (c i) (e i)
def du_st (c : Nat → Int) (d : Nat) (v : Int) : Nat → Int := fun i => if i = d then v else c i
theorem du_st_s {c : Nat → Int} {d : Nat} {v : Int} : du_st c d v d = v := if_pos rfl
theorem du_st_n {c : Nat → Int} {d i : Nat} {v : Int} (h : i ≠ d) : du_st c d v i = c i := if_neg h
theorem du_Rst {c e : Nat → Int} {a1 a2 : Nat → Int32} {d : Nat} {v g : Int} (h : du_R c e a1 a2) (hv1 : -9999 ≤ v) (hv2 : v ≤ 9999) (hg1 : -20 ≤ g) (hg2 : g ≤ 20) : du_R (du_st c d v) (du_st e d g) (upd a1 d (du_I v)) (upd a2 d (du_I g)) := by
  intro i hi
  by_cases k : i = d
  · subst k
    rw [du_st_s, du_st_s, pk_us, pk_us]
    exact ⟨hv1, hv2, hg1, hg2, rfl, rfl⟩
  · rw [du_st_n k, du_st_n k, pk_un k, pk_un k]
    exact h i hi
/-- what the law's loop needs of its next turn -/
def du_J (J28 : Int32 → Int32 → Int32 → Int32 → Int32 → Int32 → Int32 → Int32 → Int32 → Int32 → Int64 → Int32 → Int32 → (Nat → Int32) → (Nat → Int32) → (Nat → Int64) → Prop) (k : Nat) (a3 : Nat → Int64) : Prop :=
  ∀ (m : Nat) (fl : Int32) (c e : Nat → Int) (ng : Int32) (mg : Int64) (sc mo : Int32) (a1 a2 : Nat → Int32), m < 7 → du_R c e a1 a2 → J28 (du_g c e 0) (du_g c e 1) (du_g c e 2) (nI m) fl (nI (4 * (k + 1))) 4 (nI m) fl ng mg sc mo a1 a2 a3
theorem du_pick {post : Int32 → Prop} {g : Nat → Int32} {a : Nat} (ha : a < 3) (hp : post (g a)) : wpL_pick post () (nI a) (g 0) (g 1) (g 2) := by
  unfold wpL_pick
  refine pk_eq a 0 (fun h => ?_) (fun h => pk_eq a 1 (fun h' => ?_) (fun h' => ?_))
  · rw [h] at hp
    exact hp
  · rw [h'] at hp
    exact hp
  · have h2 : a = 2 := by omega
    rw [h2] at hp
    exact hp
section
variable {ra ng sc mo : Int32} {mg : Int64} {a1 a2 : Nat → Int32} {a3 : Nat → Int64}
theorem du_coef {p rm : Int32} {post : Int32 → Prop} {d : Nat} (hd : d < 6) (hp : post (a1 d)) : wpX_coefficient post (p, rm, ra, ng, mg, sc, mo, a1, a2, a3) (nI d) := by
  unfold wpX_coefficient
  dsimp only
  refine du_isreg hd ?_
  refine br_f (by decide) ⟨pk_in d 6 hd, ?_⟩
  rw [nI_clamp (by omega)]
  exact hp
theorem du_expo {p rm : Int32} {post : Int32 → Prop} {d : Nat} (hd : d < 6) (hp : post (a2 d)) : wpX_exponent post (p, rm, ra, ng, mg, sc, mo, a1, a2, a3) (nI d) := by
  unfold wpX_exponent
  dsimp only
  refine du_isreg hd ?_
  refine br_f (by decide) ⟨pk_in d 6 hd, ?_⟩
  rw [nI_clamp (by omega)]
  exact hp
theorem du_flags {p rm : Int32} {post : Int32 → Prop} (hp : post ra) : wpX_flags post (p, rm, ra, ng, mg, sc, mo, a1, a2, a3) := hp
theorem du_mode {p rm : Int32} {post : Int32 → St1 → Prop} {m : Nat} (hm : m < 7) (hp : post 1 (p, nI m, ra, ng, mg, sc, mo, a1, a2, a3)) : wpX_mode post (p, rm, ra, ng, mg, sc, mo, a1, a2, a3) (nI m) := by
  unfold wpX_mode
  dsimp only
  exact pk_lt m 0 (fun h => absurd h (by omega)) (fun _ => pk_le m 6 (fun _ => hp) (fun h => absurd h (by omega)))
theorem du_set {rm : Int32} {post : Int32 → St1 → Prop} (hT : du_T a3) {d : Nat} {v g : Int} (hd : d < 6) (hv1 : -9999 ≤ v) (hv2 : v ≤ 9999) (hg1 : -20 ≤ g) (hg2 : g ≤ 20)
    (hp : post 1 (4, rm, ra, ng, mg, sc, mo, upd a1 d (du_I v), upd a2 d (du_I g), a3)) : wpX_set post (4, rm, ra, ng, mg, sc, mo, a1, a2, a3) (nI d) (du_I v) (du_I g) := by
  have key : ∀ q : Int, q < 10000 → -10000 < q → wX_set_34 post (nI d) (du_I v) (du_I g) (du_L q) 4 rm ra ng mg sc mo a1 a2 a3 := by
    intro q hq hq2
    unfold wX_set_34
    refine ⟨pk_in 4 19 (by omega), du_llt (du_Lt (by omega) (by omega)) (b := 10000) ((du_Tt hT (show 4 < 19 by omega)).trans (by decide)) (fun _ => ⟨pk_in d 6 hd, nm_e ⟨pk_in d 6 hd, nm_e ?_⟩⟩) (fun h => absurd h (by omega))⟩
    rw [nI_clamp (show d < 2 ^ 31 by omega), du_byte (by omega) (by omega)]
    exact hp
  unfold wpX_set
  dsimp only
  refine du_isreg hd ?_
  refine br_f (by decide) ?_
  refine du_ilt (du_It (by omega) (by omega)) (b := -20) (by decide) (fun h => absurd h (by omega)) (fun _ => du_ile (du_It (by omega) (by omega)) (b := 20) (by decide) (fun _ => ?_) (fun h => absurd h (by omega)))
  rw [du_IL (z := v) (by omega) (by omega), du_Lneg]
  exact du_ile (a := 0) (by decide) (du_It (by omega) (by omega)) (fun _ => key v (by omega) (by omega)) (fun _ => key (-v) (by omega) (by omega))
section
variable {post : Int32 → Prop} {L kc ks : Nat} {xs : Nat → Int32} {J28 : Int32 → Int32 → Int32 → Int32 → Int32 → Int32 → Int32 → Int32 → Int32 → Int32 → Int64 → Int32 → Int32 → (Nat → Int32) → (Nat → Int32) → (Nat → Int64) → Prop}
theorem du_478 {c e : Nat → Int} {k m : Nat} {fl : Int32} (hm : m < 7) (hR : du_R c e a1 a2) (hJ : du_J J28 k a3) :
    ∃ fu, wL_law_478 post L xs J28 (du_g c e 0) (du_g c e 1) (du_g c e 2) (nI m) fl (nI (4 * k)) kc ks 4 (nI m) fl ng mg sc mo a1 a2 a3 fu 0 := by
  refine pk_loop (σ := Unit) (fun n i _ => wL_law_478 post L xs J28 (du_g c e 0) (du_g c e 1) (du_g c e 2) (nI m) fl (nI (4 * k)) kc ks 4 (nI m) fl ng mg sc mo a1 a2 a3 n (nI i)) (fun _ _ => True) 3 0 () (by omega) trivial ?_ ?_
  · intro n _ _
    refine pk_le 3 3 (fun _ => ?_) (fun h => absurd h (by omega))
    refine du_flags ?_
    exact br_t rfl (nm_r (nI_add (4 * k) 4) (hJ m fl c e ng mg sc mo a1 a2 hm hR))
  · intro n i _ hi _ hw
    obtain ⟨h1, h2, h3, h4, h5, h6⟩ := hR i hi
    refine pk_le 3 i (fun h => absurd h (by omega)) (fun _ => ?_)
    refine du_pick (g := du_g c e) hi ?_
    refine du_coef (by omega) ?_
    refine br_t (h5.trans (du_pk_hi h1 h2 h3 h4).symm) ?_
    refine du_expo (by omega) ?_
    exact br_t (h6.trans (du_pk_lo h1 h2 h3 h4).symm) (nm_r (nI_1 i) (hw () trivial))
theorem du_448 {c e : Nat → Int} {k m d : Nat} {fl x2 x3 x4 x20 : Int32} (hm : m < 7) (hd : d < 3) (hR : du_R c e a1 a2) (hJ : du_J J28 k a3) (h0 : d ≠ 0 → x2 = du_g c e 0) (h1 : d ≠ 1 → x3 = du_g c e 1) (h2 : d ≠ 2 → x4 = du_g c e 2) (hx : x20 = du_g c e d) :
    wL_law_448 post L xs J28 x2 x3 x4 (nI m) fl (nI (4 * k)) (nI d) x20 kc ks 4 (nI m) fl ng mg sc mo a1 a2 a3 := by
  have key := du_478 (post := post) (L := L) (kc := kc) (ks := ks) (xs := xs) (ng := ng) (mg := mg) (sc := sc) (mo := mo) (fl := fl) hm hR hJ
  have hc : d = 0 ∨ d = 1 ∨ d = 2 := by omega
  rcases hc with e0 | e0 | e0
  · subst e0
    rw [hx, h1 (by omega), h2 (by omega)]
    exact br_t rfl (br_f (by decide) (br_f (by decide) key))
  · subst e0
    rw [hx, h0 (by omega), h2 (by omega)]
    exact br_f (by decide) (br_t rfl (br_f (by decide) key))
  · subst e0
    rw [hx, h0 (by omega), h1 (by omega)]
    exact br_f (by decide) (br_f (by decide) (br_t rfl key))
theorem du_m255 (x : Int32) (n : Nat) (h0 : 0 < n) (hn : n < 2 ^ 31) : ∃ d, d < n ∧ (x &&& 255) - (x &&& 255) / nI n * nI n = nI d := by
  obtain ⟨j, hj, ej⟩ := pk_andE x (m := 255) 8 (by decide)
  rw [ej]
  exact ⟨j % n, Nat.mod_lt _ h0, pk_rem (by omega) h0 hn⟩
theorem du_241 {c e : Nat → Int} {k m d : Nat} {fl : Int32} (hT : du_T a3) (hL : L ≤ 260) (hk : 4 * k + 4 ≤ L) (hm : m < 7) (hd : d < 3) (hR : du_R c e a1 a2) (hJ : du_J J28 k a3) :
    wL_law_241 post L xs J28 (du_g c e 0) (du_g c e 1) (du_g c e 2) (nI m) fl (nI (4 * k)) (nI d) kc ks 4 (nI m) fl ng mg sc mo a1 a2 a3 := by
  obtain ⟨v, hv1, hv2, ev⟩ := du_rem (xs (nI (4 * k) + 2).toNatClampNeg)
  obtain ⟨u, hu, eu⟩ := du_m255 (xs (nI (4 * k) + 3).toNatClampNeg) 9 (by omega) (by omega)
  have eu2 : ((xs (nI (4 * k) + 3).toNatClampNeg &&& 255) - (xs (nI (4 * k) + 3).toNatClampNeg &&& 255) / 9 * 9) - 4 = du_I ((u : Int) - 4) := by
    refine (congrArg (fun y : Int32 => y - 4) eu).trans ?_
    rw [du_In]
    exact du_Isub u 4
  unfold wL_law_241
  refine ⟨pk_in (4 * k + 2) L (by omega) (nI_add (4 * k) 2), by decide, nm_r ev ⟨pk_in (4 * k + 3) L (by omega) (nI_add (4 * k) 3), by decide, nm_r eu2 ?_⟩⟩
  refine du_set hT (by omega) hv1 hv2 (by omega) (by omega) ?_
  refine br_f (by decide) (nm_r (e' := du_pk v ((u : Int) - 4)) ?_ ?_)
  · rw [show (256 : Int32) = du_I 256 from rfl, show (100 : Int32) = du_I 100 from rfl, du_Imul, du_Iadd, du_Iadd]
    rfl
  · refine du_448 hm hd (du_Rst hR hv1 hv2 (show -20 ≤ (u : Int) - 4 by omega) (show (u : Int) - 4 ≤ 20 by omega)) hJ (fun h => ?_) (fun h => ?_) (fun h => ?_) ?_
    · unfold du_g
      rw [du_st_n (Ne.symm h), du_st_n (Ne.symm h)]
    · unfold du_g
      rw [du_st_n (Ne.symm h), du_st_n (Ne.symm h)]
    · unfold du_g
      rw [du_st_n (Ne.symm h), du_st_n (Ne.symm h)]
    · unfold du_g
      rw [du_st_s, du_st_s]
theorem du_402 {c e : Nat → Int} {k m d a b o : Nat} {fl : Int32} {w : Int32} {V : Int64} (hT : du_T a3) (hm : m < 7) (hd : d < 3) (ha : a < 3) (hb : b < 3) (ho : o < 3) (hR : du_R c e a1 a2) (hJ : du_J J28 k a3)
    (he1 : -6 ≤ e a) (he2 : e a ≤ 6) (hf1 : -6 ≤ e b) (hf2 : e b ≤ 6) (hw : w = du_I (du_w o (e a) (e b))) (hV : V = du_L (du_V o (c a) (e a) (c b) (e b))) :
    wL_law_402 post L xs J28 (du_g c e 0) (du_g c e 1) (du_g c e 2) (nI m) fl (nI (4 * k)) (nI d) (nI a) (nI b) (nI o) w V kc ks 4 (nI m) fl ng mg sc mo a1 a2 a3 := by
  subst hw hV
  obtain ⟨hx1, hx2, _, _, hx5, hx6⟩ := hR a ha
  obtain ⟨hy1, hy2, _, _, hy5, hy6⟩ := hR b hb
  obtain ⟨r, t, D, hP, hDt, hw1, hw2, hwD⟩ := du_Vb (o := o) hx1 hx2 hy1 hy2 he1 he2 hf1 hf2
  unfold wL_law_402
  refine du_raised hP hDt ?_
  refine du_apply hT hm ho (by omega) (by omega) (by omega) hx1 hx2 hy1 hy2 he1 he2 hf1 hf2 hx5 hy5 hx6 hy6 hP hDt hw1 hw2 hwD (fun ng' mg' sc' mo' => ?_)
  refine br_t rfl ?_
  refine du_finished hm hP hDt ?_
  refine nm_e ?_
  have hc := du_sg_b (z := du_V o (c a) (e a) (c b) (e b)) (du_c_le (m := m) (ng := decide (du_V o (c a) (e a) (c b) (e b) < 0)) hP.2.1)
  have hq := du_e_le (m := m) (ng := decide (du_V o (c a) (e a) (c b) (e b) < 0)) (r := r) hP.2.2.1
  refine du_448 hm hd (du_Rst hR hc.1 hc.2 ?_ ?_) hJ (fun h => ?_) (fun h => ?_) (fun h => ?_) ?_
  · omega
  · omega
  · unfold du_g
    rw [du_st_n (Ne.symm h), du_st_n (Ne.symm h)]
  · unfold du_g
    rw [du_st_n (Ne.symm h), du_st_n (Ne.symm h)]
  · unfold du_g
    rw [du_st_n (Ne.symm h), du_st_n (Ne.symm h)]
  · unfold du_g
    rw [du_st_s, du_st_s]
theorem du_330 {c e : Nat → Int} {k m d a b o : Nat} {fl : Int32} {w : Int32} (hT : du_T a3) (hm : m < 7) (hd : d < 3) (ha : a < 3) (hb : b < 3) (ho : o < 3) (hR : du_R c e a1 a2) (hJ : du_J J28 k a3)
    (he1 : -6 ≤ e a) (he2 : e a ≤ 6) (hf1 : -6 ≤ e b) (hf2 : e b ≤ 6) (hw : w = du_I (du_w o (e a) (e b))) :
    wL_law_330 post L xs J28 (du_g c e 0) (du_g c e 1) (du_g c e 2) (nI m) fl (nI (4 * k)) (nI d) (nI a) (nI b) (nI o) (du_I (e a)) (du_I (e b)) (du_L (c a)) (du_L (c b)) w kc ks 4 (nI m) fl ng mg sc mo a1 a2 a3 := by
  unfold wL_law_330
  have hE : (du_I (e a)).toInt = e a := du_It (by omega) (by omega)
  have hF : (du_I (e b)).toInt = e b := du_It (by omega) (by omega)
  have k397 : ∀ (y : Int) (q : Int32), o ≠ 2 → y = (if o = 0 then c b else -(c b)) → q = nI (e b - e a).toNat → wL_law_397 post L xs J28 (du_g c e 0) (du_g c e 1) (du_g c e 2) (nI m) fl (nI (4 * k)) (nI d) (nI a) (nI b) (nI o) w q (du_L y) (du_L (c a) * lN (10 ^ (e a - e b).toNat)) kc ks 4 (nI m) fl ng mg sc mo a1 a2 a3 := by
    intro y q ho2 hy hq
    subst hq
    unfold wL_law_397
    refine du_power (by omega) ?_
    refine du_402 hT hm hd ha hb ho hR hJ he1 he2 hf1 hf2 hw ?_
    rw [du_Ln, du_Ln, du_Lmul, du_Lmul, du_Ladd]
    refine congrArg du_L ?_
    unfold du_V du_V2
    rw [if_neg ho2, hy]
  have k381 : ∀ (y : Int), o ≠ 2 → y = (if o = 0 then c b else -(c b)) → wL_law_381 post L xs J28 (du_g c e 0) (du_g c e 1) (du_g c e 2) (nI m) fl (nI (4 * k)) (nI d) (nI a) (nI b) (nI o) (du_I (e a)) (du_I (e b)) w (du_L y) (du_L (c a) * lN (10 ^ (e a - e b).toNat)) kc ks 4 (nI m) fl ng mg sc mo a1 a2 a3 := by
    intro y ho2 hy
    unfold wL_law_381
    refine du_ile hE hF (fun h => ?_) (fun h => ?_)
    · refine k397 y _ ho2 hy ?_
      rw [du_Isub, du_In]
      exact congrArg du_I (by omega)
    · refine k397 y _ ho2 hy ?_
      rw [show (e b - e a).toNat = 0 by omega]
      rfl
  have k364 : ∀ (q : Int32), o ≠ 2 → q = nI (e a - e b).toNat → wL_law_364 post L xs J28 (du_g c e 0) (du_g c e 1) (du_g c e 2) (nI m) fl (nI (4 * k)) (nI d) (nI a) (nI b) (nI o) (du_I (e a)) (du_I (e b)) (du_L (c b)) w q (du_L (c a)) kc ks 4 (nI m) fl ng mg sc mo a1 a2 a3 := by
    intro q ho2 hq
    subst hq
    unfold wL_law_364
    refine du_power (by omega) ?_
    refine pk_eq o 0 (fun h => ?_) (fun h => ?_)
    · exact k381 (c b) ho2 (if_pos h).symm
    · rw [du_Lneg]
      exact k381 (-(c b)) ho2 (if_neg h).symm
  refine pk_eq o 2 (fun h => ?_) (fun h => du_ile hF hE (fun g => ?_) (fun g => ?_))
  · refine du_402 hT hm hd ha hb ho hR hJ he1 he2 hf1 hf2 hw ?_
    rw [du_Lmul]
    exact congrArg du_L (if_pos h).symm
  · refine k364 _ h ?_
    rw [du_Isub, du_In]
    exact congrArg du_I (by omega)
  · refine k364 _ h ?_
    rw [show (e a - e b).toNat = 0 by omega]
    rfl
end
end
theorem du_law28 {post : Int32 → Prop} {L kc ks : Nat} {xs : Nat → Int32} {a3 : Nat → Int64} (hT : du_T a3) (hL : L ≤ 260) (h1 : post 1) : ∀ (n k : Nat), L < 4 * (k + n) → 4 * k ≤ L →
    ∀ (m : Nat) (fl : Int32) (c e : Nat → Int) (ng : Int32) (mg : Int64) (sc mo : Int32) (a1 a2 : Nat → Int32), m < 7 → du_R c e a1 a2 → wL_law_28 post L xs kc ks n (du_g c e 0) (du_g c e 1) (du_g c e 2) (nI m) fl (nI (4 * k)) 4 (nI m) fl ng mg sc mo a1 a2 a3 := by
  intro n
  induction n with
  | zero => intro k h hk; omega
  | succ n ih =>
    intro k hn hk m fl c e ng mg sc mo a1 a2 hm hR
    obtain ⟨d, hd, ed⟩ := du_m255 (xs (nI (4 * k) + 1).toNatClampNeg) 3 (by omega) (by omega)
    obtain ⟨a, ha, ea⟩ := du_m255 (xs (nI (4 * k) + 2).toNatClampNeg) 3 (by omega) (by omega)
    obtain ⟨b, hb, eb⟩ := du_m255 (xs (nI (4 * k) + 3).toNatClampNeg) 3 (by omega) (by omega)
    obtain ⟨md, hmd, emd⟩ := du_m255 (xs (nI (4 * k) + 1).toNatClampNeg) 7 (by omega) (by omega)
    obtain ⟨o, ho, eo⟩ := pk_andE (xs (nI (4 * k)).toNatClampNeg >>> ((3 : Int32) &&& 31)) (m := 3) 2 (by decide)
    have hx1 : nI (4 * k) + 1 = nI (4 * k + 1) := nI_add (4 * k) 1
    have hx2 : nI (4 * k) + 2 = nI (4 * k + 2) := nI_add (4 * k) 2
    have hx3 : nI (4 * k) + 3 = nI (4 * k + 3) := nI_add (4 * k) 3
    have hL4 : (Int32.ofNat L - 4).toInt = (L : Int) - 4 := pk_sub_toInt (a := L) (b := 4) (by omega) (by omega)
    have hX : (nI (4 * k)).toInt = ((4 * k : Nat) : Int) := du_nT (by omega)
    obtain ⟨ra1, ra2, ra3, ra4, ra5, ra6⟩ := hR a ha
    obtain ⟨rb1, rb2, rb3, rb4, rb5, rb6⟩ := hR b hb
    refine du_ilt hL4 hX (fun _ => h1) (fun h => ?_)
    have hk4 : 4 * k + 4 ≤ L := by omega
    have hJ : du_J (wL_law_28 post L xs kc ks n) k a3 := fun m' fl' c' e' ng' mg' sc' mo' a1' a2' hm' hR' => ih (k + 1) (by omega) (by omega) m' fl' c' e' ng' mg' sc' mo' a1' a2' hm' hR'
    refine ⟨pk_in (4 * k + 1) L (by omega) hx1, by decide, nm_r ed ⟨pk_in (4 * k + 2) L (by omega) hx2, by decide, nm_r ea ⟨pk_in (4 * k + 3) L (by omega) hx3, by decide, nm_r eb ⟨pk_in (4 * k) L (by omega), nm_r eo ?_⟩⟩⟩⟩
    refine du_pick (g := du_g c e) ha ?_
    refine du_pick (g := du_g c e) hb ?_
    refine nm_r (du_pk_lo ra1 ra2 ra3 ra4) (nm_r (du_pk_lo rb1 rb2 rb3 rb4) (nm_r (e' := du_L (c a)) ?_ (nm_r (e' := du_L (c b)) ?_ ?_)))
    · refine (congrArg Int32.toInt64 (du_pk_hi ra1 ra2 ra3 ra4)).trans (du_IL (by omega) (by omega))
    · refine (congrArg Int32.toInt64 (du_pk_hi rb1 rb2 rb3 rb4)).trans (du_IL (by omega) (by omega))
    refine du_pick (g := du_g c e) hd ?_
    have k241 := du_241 (post := post) (L := L) (kc := kc) (ks := ks) (xs := xs) (ng := ng) (mg := mg) (sc := sc) (mo := mo) (fl := fl) hT hL hk4 hm hd hR hJ
    have hE : (du_I (e a)).toInt = e a := du_It (by omega) (by omega)
    have hF : (du_I (e b)).toInt = e b := du_It (by omega) (by omega)
    refine ⟨pk_in (4 * k) L (by omega), br_c (fun _ => ⟨pk_in (4 * k + 1) L (by omega) hx1, by decide, nm_r emd ?_⟩) (fun _ => ⟨pk_in (4 * k) L (by omega), br_c (fun _ => k241) (fun _ =>
      du_ilt hE (b := -6) (by decide) (fun _ => k241) (fun g1 => du_ilt (a := 6) (by decide) hE (fun _ => k241) (fun g2 => du_ilt hF (b := -6) (by decide) (fun _ => k241) (fun g3 => du_ilt (a := 6) (by decide) hF (fun _ => k241) (fun g4 =>
        pk_eq o 3 (fun _ => k241) (fun o3 => ?_))))))⟩)⟩
    · refine du_mode hmd ?_
      refine br_f (by decide) ?_
      exact du_448 hmd hd hR hJ (fun _ => rfl) (fun _ => rfl) (fun _ => rfl) rfl
    · have ho3 : o < 3 := by omega
      refine pk_eq o 2 (fun o2 => ?_) (fun o2 => du_ile hF hE (fun g => ?_) (fun g => ?_))
      · refine du_330 hT hm hd ha hb ho3 hR hJ g1 g2 g3 g4 ?_
        rw [du_Iadd]
        exact congrArg du_I (if_pos o2).symm
      · refine du_330 hT hm hd ha hb ho3 hR hJ g1 g2 g3 g4 ?_
        refine congrArg du_I ?_
        unfold du_w du_mn
        rw [if_neg o2, if_neg (by omega)]
      · refine du_330 hT hm hd ha hb ho3 hR hJ g1 g2 g3 g4 ?_
        refine congrArg du_I ?_
        unfold du_w du_mn
        rw [if_neg o2, if_pos (by omega)]
theorem i_vc (xs : Nat → Int32) (L : Nat) (hL : L ≤ 260) : wpL_law (fun r => r = 1) L xs := by
  refine ⟨3, 31, by omega, by omega, ?_⟩
  refine du_init (by omega) (by omega) (fun t hT => ?_)
  refine ⟨L + 1, ?_⟩
  have hR : du_R (fun _ => 0) (fun _ => 0) (fun _ => 0) (fun _ => 0) := fun i hi => ⟨(by decide : (-9999 : Int) ≤ 0), (by decide : (0 : Int) ≤ 9999), (by decide : (-20 : Int) ≤ 0), (by decide : (0 : Int) ≤ 20), rfl, rfl⟩
  exact du_law28 (post := fun r => r = 1) hT hL rfl (L + 1) 0 (by omega) (by omega) 0 0 (fun _ => 0) (fun _ => 0) 0 0 0 0 (fun _ => 0) (fun _ => 0) (by omega) hR
end
