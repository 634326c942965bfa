section
/-! rows of BITS.to-paste (a starting text): a byte read unsigned; lN under shifts, and, or, masks -/
theorem bp_b (x : Int32) : x.toInt8.toInt32 &&& 255 = x &&& 255 := by
  apply Int32.toBitVec_inj.mp
  rw [Int32.toBitVec_and, Int32.toBitVec_and, Int8.toBitVec_toInt32, Int32.toBitVec_toInt8]
  apply BitVec.eq_of_getLsbD_eq
  intro i hi
  rw [BitVec.getLsbD_and, BitVec.getLsbD_and]
  have hm : ∀ i < 32, 8 ≤ i → (255 : Int32).toBitVec.getLsbD i = false := by decide
  rcases Nat.lt_or_ge i 8 with z | z
  · rw [BitVec.getLsbD_signExtend, BitVec.getLsbD_signExtend, if_pos z, if_pos hi]
    simp only [z, hi, decide_true, Bool.true_and]
  · rw [hm i hi z]; simp
theorem wb_tb (n : Nat) : (lN n).toBitVec = BitVec.ofNat 64 n := rfl
theorem wb_inj {a b : Int64} (h : a.toBitVec = b.toBitVec) : a = b := Int64.toBitVec_inj.mp h
theorem wb_tn {n : Nat} (h : n < 2 ^ 64) : (lN n).toBitVec.toNat = n := by rw [wb_tb, BitVec.toNat_ofNat, Nat.mod_eq_of_lt h]
theorem wb_of (x : Int64) : ∃ n, n < 2 ^ 64 ∧ x = lN n := ⟨x.toBitVec.toNat, x.toBitVec.isLt, wb_inj (by rw [wb_tb]; simp)⟩
theorem wb_of32 (x : Int32) : ∃ n, n < 2 ^ 32 ∧ x = nI n := ⟨x.toBitVec.toNat, x.toBitVec.isLt, Int32.toBitVec_inj.mp (by show _ = BitVec.ofNat 32 _; simp)⟩
theorem wb_c : ∀ k, k < 64 → ((nI k).toInt64 &&& 63) = lN k := by decide +kernel
theorem wb_cu : ∀ k, k < 64 → ((nI k).toInt64.toUInt64 &&& Int64.toUInt64 63) = UInt64.ofNat k := by decide +kernel
theorem wb_sm : ∀ k, k < 64 → (BitVec.ofNat 64 k).smod 64 = BitVec.ofNat 64 k := by decide +kernel
theorem wb_pw {a b : Nat} (h : a ≤ b) : 2 ^ b = 2 ^ a * 2 ^ (b - a) := by rw [← Nat.pow_add]; congr 1; omega
theorem wb_lt2 {a b : Nat} (h : a < b) : 2 ^ a < 2 ^ b := Nat.pow_lt_pow_right (by decide) h
theorem wb_mod (n : Nat) : lN n = lN (n % 2 ^ 64) := wb_inj (by rw [wb_tb, wb_tb]; apply BitVec.eq_of_toNat_eq; rw [BitVec.toNat_ofNat, BitVec.toNat_ofNat, Nat.mod_mod])
theorem wb_shr {n k : Nat} (hn : n < 2 ^ 64) (hk : k < 64) : ((lN n).toUInt64 >>> ((nI k).toInt64.toUInt64 &&& Int64.toUInt64 63)).toInt64 = lN (n / 2 ^ k) := by
  rw [wb_cu k hk]
  apply wb_inj
  apply BitVec.eq_of_toNat_eq
  show ((lN n).toUInt64 >>> UInt64.ofNat k).toNat = (BitVec.ofNat 64 _).toNat
  have h1 : (UInt64.ofNat k).toNat = k := by
    show (BitVec.ofNat 64 k).toNat = k
    rw [BitVec.toNat_ofNat, Nat.mod_eq_of_lt (by omega)]
  have h2 : (lN n).toUInt64.toNat = n := wb_tn hn
  rw [UInt64.toNat_shiftRight, h1, h2, Nat.mod_eq_of_lt hk, Nat.shiftRight_eq_div_pow, BitVec.toNat_ofNat, Nat.mod_eq_of_lt (Nat.lt_of_le_of_lt (Nat.div_le_self _ _) hn)]
theorem wb_shl (n : Nat) {k : Nat} (hk : k < 64) : lN n <<< ((nI k).toInt64 &&& 63) = lN (n * 2 ^ k) := by
  rw [wb_c k hk]
  apply wb_inj
  rw [Int64.toBitVec_shiftLeft, wb_tb, wb_tb, wb_tb, wb_sm k hk]
  apply BitVec.eq_of_toNat_eq
  rw [BitVec.shiftLeft_eq', BitVec.toNat_shiftLeft, BitVec.toNat_ofNat, BitVec.toNat_ofNat, BitVec.toNat_ofNat, Nat.mod_eq_of_lt (show k < 2 ^ 64 by omega), Nat.shiftLeft_eq, Nat.mul_mod, Nat.mod_mod, ← Nat.mul_mod]
theorem wb_and {a b : Nat} (ha : a < 2 ^ 64) (hb : b < 2 ^ 64) : lN a &&& lN b = lN (a &&& b) := by
  apply wb_inj
  rw [Int64.toBitVec_and, wb_tb, wb_tb, wb_tb]
  apply BitVec.eq_of_toNat_eq
  rw [BitVec.toNat_and, BitVec.toNat_ofNat, BitVec.toNat_ofNat, BitVec.toNat_ofNat, Nat.mod_eq_of_lt ha, Nat.mod_eq_of_lt hb, Nat.mod_eq_of_lt (Nat.and_lt_two_pow _ hb)]
theorem wb_or {a b : Nat} (ha : a < 2 ^ 64) (hb : b < 2 ^ 64) : lN a ||| lN b = lN (a ||| b) := by
  apply wb_inj
  rw [Int64.toBitVec_or, wb_tb, wb_tb, wb_tb]
  apply BitVec.eq_of_toNat_eq
  rw [BitVec.toNat_or, BitVec.toNat_ofNat, BitVec.toNat_ofNat, BitVec.toNat_ofNat, Nat.mod_eq_of_lt ha, Nat.mod_eq_of_lt hb, Nat.mod_eq_of_lt (Nat.or_lt_two_pow ha hb)]
theorem wb_mask {n k : Nat} (hn : n < 2 ^ 64) (hk : k < 64) : lN n &&& lN (2 ^ k - 1) = lN (n % 2 ^ k) := by
  rw [wb_and hn (by have := wb_lt2 hk; omega), Nat.and_two_pow_sub_one_eq_mod]
theorem sq_utn {n : Nat} (h : n < 2 ^ 64) : (UInt64.ofNat n).toNat = n := Nat.mod_eq_of_lt h
theorem sq_gor {k p a b : Nat} (hp : 2 ^ k = p) (ha : a < p) (h : b * p + a < 2 ^ 64) : lN (b * p) ||| lN a = lN (b * p + a) := by
  subst hp
  have h1 : b * 2 ^ k ||| a = b * 2 ^ k + a := by rw [← Nat.shiftLeft_eq, Nat.shiftLeft_add_eq_or_of_lt ha]
  have h3 : UInt64.ofNat (b * 2 ^ k) ||| UInt64.ofNat a = UInt64.ofNat (b * 2 ^ k + a) := UInt64.toNat_inj.mp (by rw [UInt64.toNat_or, sq_utn (by omega), sq_utn (by omega), sq_utn h, h1])
  have h2 := congrArg UInt64.toInt64 h3
  exact h2
end
section
/-! bytes, numbers of many bytes, chances -/
/-- the byte that a cell holds -/
def sq_by (x : Int32) : Nat := x.toBitVec.toNat % 256
theorem sq_by_lt (x : Int32) : sq_by x < 256 := Nat.mod_lt _ (by decide)
theorem sq_by_and (x : Int32) : x &&& 255 = nI (sq_by x) := pk_and x 8 (by decide)
theorem sq_by_w {v : Nat} (hv : v < 2 ^ 32) : sq_by ((nI v).toInt8.toInt32) = v % 256 := by
  have h := bp_b (nI v)
  rw [sq_by_and, sq_by_and] at h
  have h1 := sq_by_lt ((nI v).toInt8.toInt32)
  have h2 := sq_by_lt (nI v)
  have h3 := (nI_eq (by omega) (by omega)).mp h
  rw [h3]
  unfold sq_by
  rw [pk_tn hv]
/-- the number that the first n bytes write, the first one highest -/
def sq_num (f : Nat → Nat) : Nat → Nat
  | 0 => 0
  | n + 1 => sq_num f n * 256 + f n
theorem sq_num_s (f : Nat → Nat) (n : Nat) : sq_num f (n + 1) = sq_num f n * 256 + f n := rfl
theorem sq_num_congr {f g : Nat → Nat} : ∀ {n : Nat}, (∀ j, j < n → f j = g j) → sq_num f n = sq_num g n := by
  intro n
  induction n with
  | zero => intro _; rfl
  | succ n ih =>
    intro h
    rw [sq_num_s, sq_num_s, ih (fun j hj => h j (by omega)), h n (by omega)]
theorem sq_num_div {f : Nat → Nat} (hf : ∀ j, f j < 256) (n k : Nat) : sq_num f (n + k) / 256 ^ k = sq_num f n := by
  induction k with
  | zero => simp
  | succ k ih =>
    have e : sq_num f (n + (k + 1)) = sq_num f (n + k) * 256 + f (n + k) := rfl
    have h := hf (n + k)
    rw [e, Nat.pow_succ, Nat.mul_comm (256 ^ k) 256, ← Nat.div_div_eq_div_mul, show (sq_num f (n + k) * 256 + f (n + k)) / 256 = sq_num f (n + k) by omega]
    exact ih
theorem sq_num_mono (f : Nat → Nat) (n k : Nat) : sq_num f n ≤ sq_num f (n + k) := by
  induction k with
  | zero => exact Nat.le_refl _
  | succ k ih =>
    have e : sq_num f (n + (k + 1)) = sq_num f (n + k) * 256 + f (n + k) := rfl
    omega
/-- one byte more, stored behind -/
theorem sq_num_put {a : Nat → Int32} {B w : Nat} {y : Int32} : sq_num (fun j => sq_by (upd a (B + w) y (B + j))) (w + 1) = sq_num (fun j => sq_by (a (B + j))) w * 256 + sq_by y := by
  rw [sq_num_s]
  have h1 : sq_num (fun j => sq_by (upd a (B + w) y (B + j))) w = sq_num (fun j => sq_by (a (B + j))) w := by
    apply sq_num_congr
    intro j hj
    show sq_by (upd a (B + w) y (B + j)) = sq_by (a (B + j))
    rw [pk_un (by omega)]
  rw [h1]
  show _ + sq_by (upd a (B + w) y (B + w)) = _
  rw [pk_us]
/-- what a chance learns -/
def sq_lrn (b c : Nat) : Nat := if b = 0 then c + (2048 - c) / 32 else c - c / 32
theorem sq_lrn_in {b c : Nat} (h1 : 31 ≤ c) (h2 : c ≤ 2017) : 31 ≤ sq_lrn b c ∧ sq_lrn b c ≤ 2017 := by
  unfold sq_lrn
  split <;> omega
def sq_upd (p : Nat → Nat) (k v : Nat) : Nat → Nat := fun j => if j = k then v else p j
theorem sq_us {p : Nat → Nat} {k v : Nat} : sq_upd p k v k = v := if_pos rfl
theorem sq_un {p : Nat → Nat} {k v j : Nat} (h : j ≠ k) : sq_upd p k v j = p j := if_neg h
theorem sq_upd_in {p : Nat → Nat} {k v : Nat} (h : ∀ j, 31 ≤ p j ∧ p j ≤ 2017) (hv : 31 ≤ v ∧ v ≤ 2017) : ∀ j, 31 ≤ sq_upd p k v j ∧ sq_upd p k v j ≤ 2017 := by
  intro j
  unfold sq_upd
  split
  · exact hv
  · exact h j
/-! ranges as longs -/
theorem sq_shr11 {R : Nat} (h : R < 2 ^ 64) : ((lN R).toUInt64 >>> ((11 : Int32).toInt64.toUInt64 &&& Int64.toUInt64 63)).toInt64 = lN (R / 2048) := wb_shr (k := 11) h (by decide)
theorem sq_shr24 {R : Nat} (h : R < 2 ^ 64) : ((lN R).toUInt64 >>> ((24 : Int32).toInt64.toUInt64 &&& Int64.toUInt64 63)).toInt64 = lN (R / 16777216) := wb_shr (k := 24) h (by decide)
theorem sq_shr32 {R : Nat} (h : R < 2 ^ 64) : ((lN R).toUInt64 >>> ((32 : Int32).toInt64.toUInt64 &&& Int64.toUInt64 63)).toInt64 = lN (R / 4294967296) := wb_shr (k := 32) h (by decide)
theorem sq_shl8 (R : Nat) : lN R <<< ((8 : Int32).toInt64 &&& 63) = lN (R * 256) := wb_shl (k := 8) R (by decide)
theorem sq_mask24 {R : Nat} (h : R < 2 ^ 64) : lN R &&& 16777215 = lN (R % 16777216) := wb_mask (k := 24) h (by decide)
theorem sq_mask32 {R : Nat} (h : R < 2 ^ 64) : lN R &&& 4294967295 = lN (R % 4294967296) := wb_mask (k := 32) h (by decide)
theorem sq_or8 {x b : Nat} (hb : b < 256) (h : x * 256 + b < 2 ^ 64) : lN (x * 256) ||| lN b = lN (x * 256 + b) := sq_gor (k := 8) (by decide) hb h
theorem sq_lle {x y : Int64} {A B : Prop} (a b : Nat) (f : a ≤ b → A) (g : b < a → B) (hx : x = lN a) (hy : y = lN b) (ha : a < 2 ^ 63) (hb : b < 2 ^ 63) : (x ≤ y → A) ∧ (¬ x ≤ y → B) := by
  subst hx hy
  rw [pk_lLE ha hb]
  exact ⟨f, fun z => g (by omega)⟩
theorem sq_llt {x y : Int64} {A B : Prop} (a b : Nat) (f : a < b → A) (g : b ≤ a → B) (hx : x = lN a) (hy : y = lN b) (ha : a < 2 ^ 63) (hb : b < 2 ^ 63) : (x < y → A) ∧ (¬ x < y → B) := by
  subst hx hy
  rw [pk_lLT ha hb]
  exact ⟨f, fun z => g (by omega)⟩
end
section
/-! the coder as numbers: chances, low end, width, shifts -/
def sq_stp (e : (Nat → Nat) × Nat × Nat × Nat) (d : Nat × Nat) : (Nat → Nat) × Nat × Nat × Nat :=
  if (if d.2 = 0 then e.2.2.1 / 2048 * e.1 d.1 else e.2.2.1 - e.2.2.1 / 2048 * e.1 d.1) < 16777216 then
    (sq_upd e.1 d.1 (sq_lrn d.2 (e.1 d.1)), (if d.2 = 0 then e.2.1 else e.2.1 + e.2.2.1 / 2048 * e.1 d.1) * 256, (if d.2 = 0 then e.2.2.1 / 2048 * e.1 d.1 else e.2.2.1 - e.2.2.1 / 2048 * e.1 d.1) * 256, e.2.2.2 + 1)
  else
    (sq_upd e.1 d.1 (sq_lrn d.2 (e.1 d.1)), (if d.2 = 0 then e.2.1 else e.2.1 + e.2.2.1 / 2048 * e.1 d.1), (if d.2 = 0 then e.2.2.1 / 2048 * e.1 d.1 else e.2.2.1 - e.2.2.1 / 2048 * e.1 d.1), e.2.2.2)
def sq_run (ds : List (Nat × Nat)) : (Nat → Nat) × Nat × Nat × Nat := ds.foldl sq_stp (fun _ => 1024, 0, 4294967295, 0)
def sq_P (ds : List (Nat × Nat)) : Nat → Nat := (sq_run ds).1
def sq_L (ds : List (Nat × Nat)) : Nat := (sq_run ds).2.1
def sq_R (ds : List (Nat × Nat)) : Nat := (sq_run ds).2.2.1
def sq_S (ds : List (Nat × Nat)) : Nat := (sq_run ds).2.2.2
/-- the bound of a decision at place k; low end and width ahead of the shift -/
def sq_B (ds : List (Nat × Nat)) (k : Nat) : Nat := sq_R ds / 2048 * sq_P ds k
def sq_L1 (ds : List (Nat × Nat)) (k b : Nat) : Nat := if b = 0 then sq_L ds else sq_L ds + sq_B ds k
def sq_R1 (ds : List (Nat × Nat)) (k b : Nat) : Nat := if b = 0 then sq_B ds k else sq_R ds - sq_B ds k
theorem sq_run_s (ds : List (Nat × Nat)) (d : Nat × Nat) : sq_run (ds ++ [d]) = sq_stp (sq_run ds) d := by
  unfold sq_run
  rw [List.foldl_append]
  rfl
theorem sq_P_s (ds : List (Nat × Nat)) (k b : Nat) : sq_P (ds ++ [(k, b)]) = sq_upd (sq_P ds) k (sq_lrn b (sq_P ds k)) := by
  unfold sq_P
  rw [sq_run_s]
  by_cases z : sq_R1 ds k b < 16777216
  · have e : sq_stp (sq_run ds) (k, b) = (sq_upd (sq_P ds) k (sq_lrn b (sq_P ds k)), sq_L1 ds k b * 256, sq_R1 ds k b * 256, sq_S ds + 1) := if_pos z
    rw [e]
    rfl
  · have e : sq_stp (sq_run ds) (k, b) = (sq_upd (sq_P ds) k (sq_lrn b (sq_P ds k)), sq_L1 ds k b, sq_R1 ds k b, sq_S ds) := if_neg z
    rw [e]
    rfl
theorem sq_nrm {ds : List (Nat × Nat)} {k b : Nat} (h : sq_R1 ds k b < 16777216) : sq_L (ds ++ [(k, b)]) = sq_L1 ds k b * 256 ∧ sq_R (ds ++ [(k, b)]) = sq_R1 ds k b * 256 ∧ sq_S (ds ++ [(k, b)]) = sq_S ds + 1 := by
  have e : sq_run (ds ++ [(k, b)]) = (sq_upd (sq_P ds) k (sq_lrn b (sq_P ds k)), sq_L1 ds k b * 256, sq_R1 ds k b * 256, sq_S ds + 1) := by
    rw [sq_run_s]
    exact if_pos h
  unfold sq_L sq_R sq_S
  rw [e]
  exact ⟨rfl, rfl, rfl⟩
theorem sq_non {ds : List (Nat × Nat)} {k b : Nat} (h : ¬ sq_R1 ds k b < 16777216) : sq_L (ds ++ [(k, b)]) = sq_L1 ds k b ∧ sq_R (ds ++ [(k, b)]) = sq_R1 ds k b ∧ sq_S (ds ++ [(k, b)]) = sq_S ds := by
  have e : sq_run (ds ++ [(k, b)]) = (sq_upd (sq_P ds) k (sq_lrn b (sq_P ds k)), sq_L1 ds k b, sq_R1 ds k b, sq_S ds) := by
    rw [sq_run_s]
    exact if_neg h
  unfold sq_L sq_R sq_S
  rw [e]
  exact ⟨rfl, rfl, rfl⟩
/-- what holds of the coder behind n decisions -/
def sq_I (e : (Nat → Nat) × Nat × Nat × Nat) (n : Nat) : Prop := (∀ k, 31 ≤ e.1 k ∧ e.1 k ≤ 2017) ∧ 16777216 ≤ e.2.2.1 ∧ e.2.2.1 ≤ 4294967295 ∧ e.2.1 + e.2.2.1 ≤ 4294967296 * 256 ^ e.2.2.2 ∧ 4294967295 * 256 ^ e.2.2.2 ≤ e.2.2.1 * 67 ^ n
/-- a decision's bound, by numbers alone -/
theorem sq_bd {R c : Nat} (h1 : 31 ≤ c) (h2 : c ≤ 2017) : 31 * (R / 2048) ≤ R / 2048 * c ∧ R / 2048 * c ≤ 2017 * (R / 2048) := by
  constructor
  · rw [Nat.mul_comm]
    exact Nat.mul_le_mul_left _ h1
  · rw [Nat.mul_comm 2017]
    exact Nat.mul_le_mul_left _ h2
theorem sq_one {R L b bd : Nat} (hR : 16777216 ≤ R) (h1 : 31 * (R / 2048) ≤ bd) (h2 : bd ≤ 2017 * (R / 2048)) :
    65536 ≤ (if b = 0 then bd else R - bd) ∧ (if b = 0 then bd else R - bd) ≤ R ∧ R ≤ (if b = 0 then bd else R - bd) * 67 ∧ L ≤ (if b = 0 then L else L + bd) ∧ (if b = 0 then L else L + bd) + (if b = 0 then bd else R - bd) ≤ L + R := by
  by_cases hb : b = 0
  · rw [if_pos hb, if_pos hb]
    omega
  · rw [if_neg hb, if_neg hb]
    omega
theorem sq_pows {R R1 s n : Nat} (h : 4294967295 * 256 ^ s ≤ R * 67 ^ n) (h2 : R ≤ R1 * 67) : 4294967295 * 256 ^ s ≤ R1 * 67 ^ (n + 1) := by
  refine Nat.le_trans h ?_
  rw [Nat.pow_succ, Nat.mul_comm (67 ^ n) 67, ← Nat.mul_assoc]
  exact Nat.mul_le_mul_right _ h2
theorem sq_I_stp {e : (Nat → Nat) × Nat × Nat × Nat} {n : Nat} (h : sq_I e n) (d : Nat × Nat) : sq_I (sq_stp e d) (n + 1) := by
  obtain ⟨p, L, R, s⟩ := e
  obtain ⟨k, b⟩ := d
  obtain ⟨hp, hR, hR2, hLR, hpw⟩ := h
  have hp' : ∀ j, 31 ≤ p j ∧ p j ≤ 2017 := hp
  have hR' : 16777216 ≤ R := hR
  have hR2' : R ≤ 4294967295 := hR2
  have hLR' : L + R ≤ 4294967296 * 256 ^ s := hLR
  have hpw' : 4294967295 * 256 ^ s ≤ R * 67 ^ n := hpw
  obtain ⟨b1, b2⟩ := sq_bd (R := R) (hp' k).1 (hp' k).2
  obtain ⟨o1, o2, o3, o4, o5⟩ := sq_one (L := L) (b := b) hR' b1 b2
  have hq := sq_upd_in (k := k) hp' (sq_lrn_in (b := b) (hp' k).1 (hp' k).2)
  have hp2 := sq_pows hpw' o3
  by_cases z : (if b = 0 then R / 2048 * p k else R - R / 2048 * p k) < 16777216
  · have e : sq_stp (p, L, R, s) (k, b) = (sq_upd p k (sq_lrn b (p k)), (if b = 0 then L else L + R / 2048 * p k) * 256, (if b = 0 then R / 2048 * p k else R - R / 2048 * p k) * 256, s + 1) := if_pos z
    rw [e]
    refine ⟨hq, ?_, ?_, ?_, ?_⟩
    · show 16777216 ≤ (if b = 0 then R / 2048 * p k else R - R / 2048 * p k) * 256
      omega
    · show (if b = 0 then R / 2048 * p k else R - R / 2048 * p k) * 256 ≤ 4294967295
      omega
    · show (if b = 0 then L else L + R / 2048 * p k) * 256 + (if b = 0 then R / 2048 * p k else R - R / 2048 * p k) * 256 ≤ 4294967296 * 256 ^ (s + 1)
      rw [Nat.pow_succ]
      omega
    · show 4294967295 * 256 ^ (s + 1) ≤ (if b = 0 then R / 2048 * p k else R - R / 2048 * p k) * 256 * 67 ^ (n + 1)
      rw [Nat.pow_succ, Nat.mul_assoc _ 256, Nat.mul_comm 256, ← Nat.mul_assoc, ← Nat.mul_assoc]
      exact Nat.mul_le_mul_right _ hp2
  · have e : sq_stp (p, L, R, s) (k, b) = (sq_upd p k (sq_lrn b (p k)), (if b = 0 then L else L + R / 2048 * p k), (if b = 0 then R / 2048 * p k else R - R / 2048 * p k), s) := if_neg z
    rw [e]
    refine ⟨hq, ?_, ?_, ?_, ?_⟩
    · show 16777216 ≤ (if b = 0 then R / 2048 * p k else R - R / 2048 * p k)
      omega
    · show (if b = 0 then R / 2048 * p k else R - R / 2048 * p k) ≤ 4294967295
      omega
    · show (if b = 0 then L else L + R / 2048 * p k) + (if b = 0 then R / 2048 * p k else R - R / 2048 * p k) ≤ 4294967296 * 256 ^ s
      omega
    · exact hp2
theorem sq_I_run : ∀ (ds : List (Nat × Nat)) (e : (Nat → Nat) × Nat × Nat × Nat) (n : Nat), sq_I e n → sq_I (ds.foldl sq_stp e) (n + ds.length) := by
  intro ds
  induction ds with
  | nil => intro e n h; exact h
  | cons d ds ih =>
    intro e n h
    have := ih (sq_stp e d) (n + 1) (sq_I_stp h d)
    rw [List.foldl_cons, List.length_cons, show n + (ds.length + 1) = n + 1 + ds.length by omega]
    exact this
theorem sq_I_0 (ds : List (Nat × Nat)) : sq_I (sq_run ds) ds.length := by
  have h : sq_I (fun _ => 1024, 0, 4294967295, 0) 0 := ⟨fun _ => ⟨(by decide : 31 ≤ 1024), (by decide : 1024 ≤ 2017)⟩, by decide, by decide, by decide, by decide⟩
  have := sq_I_run ds _ 0 h
  rw [Nat.zero_add] at this
  exact this
theorem sq_Pin (ds : List (Nat × Nat)) (k : Nat) : 31 ≤ sq_P ds k ∧ sq_P ds k ≤ 2017 := (sq_I_0 ds).1 k
theorem sq_Rlo (ds : List (Nat × Nat)) : 16777216 ≤ sq_R ds := (sq_I_0 ds).2.1
theorem sq_Rhi (ds : List (Nat × Nat)) : sq_R ds ≤ 4294967295 := (sq_I_0 ds).2.2.1
theorem sq_LR (ds : List (Nat × Nat)) : sq_L ds + sq_R ds ≤ 4294967296 * 256 ^ sq_S ds := (sq_I_0 ds).2.2.2.1
theorem sq_Spow (ds : List (Nat × Nat)) : 4294967295 * 256 ^ sq_S ds ≤ sq_R ds * 67 ^ ds.length := (sq_I_0 ds).2.2.2.2
theorem sq_Bin (ds : List (Nat × Nat)) (k : Nat) : 31 * (sq_R ds / 2048) ≤ sq_B ds k ∧ sq_B ds k ≤ 2017 * (sq_R ds / 2048) := sq_bd (sq_Pin ds k).1 (sq_Pin ds k).2
theorem sq_R1in (ds : List (Nat × Nat)) (k b : Nat) : 65536 ≤ sq_R1 ds k b ∧ sq_R1 ds k b ≤ sq_R ds ∧ sq_L ds ≤ sq_L1 ds k b ∧ sq_L1 ds k b + sq_R1 ds k b ≤ sq_L ds + sq_R ds := by
  obtain ⟨b1, b2⟩ := sq_Bin ds k
  obtain ⟨o1, o2, o3, o4, o5⟩ := sq_one (L := sq_L ds) (b := b) (sq_Rlo ds) b1 b2
  exact ⟨o1, o2, o4, o5⟩
theorem sq_big : 67 ^ 440 < 256 ^ 345 := by decide +kernel
/-- few shifts: 440 decisions cost at most 344 bytes -/
theorem sq_S_le {ds : List (Nat × Nat)} (h : ds.length ≤ 440) : sq_S ds ≤ 344 := by
  have h1 := sq_Spow ds
  have h2 := sq_Rhi ds
  have h3 : 4294967295 * 256 ^ sq_S ds ≤ 4294967295 * 67 ^ 440 := Nat.le_trans h1 (Nat.mul_le_mul h2 (Nat.pow_le_pow_right (by decide) h))
  have h4 : 256 ^ sq_S ds ≤ 67 ^ 440 := Nat.le_of_mul_le_mul_left h3 (by decide)
  rcases Nat.lt_or_ge 344 (sq_S ds) with z | z
  · have h5 : 256 ^ 345 ≤ 256 ^ sq_S ds := Nat.pow_le_pow_right (by decide) z
    exact absurd (Nat.lt_of_lt_of_le sq_big h5) (Nat.not_lt.mpr h4)
  · exact z
/-- later intervals lie in earlier ones -/
theorem sq_nest1 (ds : List (Nat × Nat)) (d : Nat × Nat) : ∃ k, sq_S (ds ++ [d]) = sq_S ds + k ∧ sq_L ds * 256 ^ k ≤ sq_L (ds ++ [d]) ∧ sq_L (ds ++ [d]) + sq_R (ds ++ [d]) ≤ (sq_L ds + sq_R ds) * 256 ^ k := by
  obtain ⟨k, b⟩ := d
  obtain ⟨o1, o2, o3, o4⟩ := sq_R1in ds k b
  by_cases z : sq_R1 ds k b < 16777216
  · obtain ⟨e1, e2, e3⟩ := sq_nrm z
    refine ⟨1, e3, ?_, ?_⟩
    · rw [e1]; omega
    · rw [e1, e2]; omega
  · obtain ⟨e1, e2, e3⟩ := sq_non z
    refine ⟨0, e3, ?_, ?_⟩
    · rw [e1]; omega
    · rw [e1, e2]; omega
theorem sq_nest : ∀ (es ds : List (Nat × Nat)), ∃ k, sq_S (ds ++ es) = sq_S ds + k ∧ sq_L ds * 256 ^ k ≤ sq_L (ds ++ es) ∧ sq_L (ds ++ es) + sq_R (ds ++ es) ≤ (sq_L ds + sq_R ds) * 256 ^ k := by
  intro es
  induction es with
  | nil =>
    intro ds
    rw [List.append_nil]
    exact ⟨0, rfl, by omega, by omega⟩
  | cons d es ih =>
    intro ds
    obtain ⟨k1, a1, a2, a3⟩ := sq_nest1 ds d
    obtain ⟨k2, b1, b2, b3⟩ := ih (ds ++ [d])
    rw [List.append_assoc, List.singleton_append] at b1 b2 b3
    refine ⟨k1 + k2, by omega, ?_, ?_⟩
    · rw [Nat.pow_add, ← Nat.mul_assoc]
      exact Nat.le_trans (Nat.mul_le_mul_right _ a2) b2
    · rw [Nat.pow_add, ← Nat.mul_assoc]
      exact Nat.le_trans b3 (Nat.mul_le_mul_right _ a3)
/-- the number that a finished block holds: the reader is in the interval at every decision -/
theorem sq_rdin {D ds es : List (Nat × Nat)} {f : Nat → Nat} (hf : ∀ j, f j < 256) (hD : D = ds ++ es) (hn : sq_num f (sq_S D + 5) = sq_L D) : sq_L ds ≤ sq_num f (5 + sq_S ds) ∧ sq_num f (5 + sq_S ds) < sq_L ds + sq_R ds := by
  subst hD
  obtain ⟨k, a1, a2, a3⟩ := sq_nest es ds
  have hR := sq_Rlo (ds ++ es)
  rw [a1, show sq_S ds + k + 5 = 5 + sq_S ds + k by omega] at hn
  have e := sq_num_div hf (5 + sq_S ds) k
  rw [hn] at e
  have hp : 0 < 256 ^ k := Nat.pow_pos (by decide)
  rw [← e]
  constructor
  · exact (Nat.le_div_iff_mul_le hp).mpr a2
  · exact (Nat.div_lt_iff_lt_mul hp).mpr (by omega)
theorem sq_rd1 {D ds es : List (Nat × Nat)} {k b : Nat} {f : Nat → Nat} (hf : ∀ j, f j < 256) (hD : D = ds ++ (k, b) :: es) (hn : sq_num f (sq_S D + 5) = sq_L D) : sq_L1 ds k b ≤ sq_num f (5 + sq_S ds) ∧ sq_num f (5 + sq_S ds) < sq_L1 ds k b + sq_R1 ds k b := by
  have hD' : D = (ds ++ [(k, b)]) ++ es := by rw [hD, List.append_assoc, List.singleton_append]
  obtain ⟨h1, h2⟩ := sq_rdin hf hD' hn
  by_cases z : sq_R1 ds k b < 16777216
  · obtain ⟨e1, e2, e3⟩ := sq_nrm z
    rw [e3, show 5 + (sq_S ds + 1) = 5 + sq_S ds + 1 by omega, sq_num_s, e1] at h1
    rw [e3, show 5 + (sq_S ds + 1) = 5 + sq_S ds + 1 by omega, sq_num_s, e1, e2] at h2
    have := hf (5 + sq_S ds)
    omega
  · obtain ⟨e1, e2, e3⟩ := sq_non z
    rw [e3, e1] at h1
    rw [e3, e1, e2] at h2
    exact ⟨h1, h2⟩
end
section
/-! putByte, shiftLow -/
section
variable {dl pl fi co : Int32} {lw rg : Int64} {hd hc bs wr : Int32} {cd : Int64} {rd ml md : Int32} {a1 a2 a3 a4 : Nat → Int32}
theorem sq_putByte {post : St1 → Prop} {B w v : Nat} (hw : w < 352) (hB : B + 352 ≤ 1408) (H : post (dl, pl, fi, co, lw, rg, hd, hc, nI B, nI (w + 1), cd, rd, ml, md, a1, a2, upd a3 (B + w) ((nI v).toInt8.toInt32), a4)) : wpX_putByte post (dl, pl, fi, co, lw, rg, hd, hc, nI B, nI w, cd, rd, ml, md, a1, a2, a3, a4) (nI v) :=
  pk_le 352 w (fun z => absurd z (by omega)) (fun _ => ⟨pk_in (B + w) 1408 (by omega) (nI_add B w), nm_r (by rw [nI_add, nI_clamp (by omega)]) (nm_r (nI_1 w) H)⟩)
/-- the writer's held part against the exact low end L behind S shifts, r: the width -/
def sq_Sh (B : Nat) (g : Nat → Int32) (L S r lo h c w : Nat) (a3 : Nat → Int32) : Prop :=
  h < 256 ∧ w + c = S ∧ lo + r ≤ 8589934592 ∧ (h = 255 → lo + r ≤ 4294967296) ∧
  L + 4294967296 = (sq_num (fun j => sq_by (a3 (B + j))) w * 256 + h + 1) * 256 ^ c * 4294967296 + lo ∧
  (∀ j, (j < B ∨ B + 352 ≤ j) → a3 j = g j)
theorem sq_Sh_0 {B : Nat} {g : Nat → Int32} {L S R lo h c w bd : Nat} (hS : sq_Sh B g L S R lo h c w a3) (hb : bd ≤ R) : sq_Sh B g L S bd lo h c w a3 := by
  obtain ⟨h1, h2, h3, h4, h5, h6⟩ := hS
  exact ⟨h1, h2, by omega, fun z => by have := h4 z; omega, h5, h6⟩
theorem sq_Sh_1 {B : Nat} {g : Nat → Int32} {L S R lo h c w bd : Nat} (hS : sq_Sh B g L S R lo h c w a3) (hb : bd ≤ R) : sq_Sh B g (L + bd) S (R - bd) (lo + bd) h c w a3 := by
  obtain ⟨h1, h2, h3, h4, h5, h6⟩ := hS
  exact ⟨h1, h2, by omega, fun z => by have := h4 z; omega, by omega, h6⟩
/-- the bytes of 255 behind the held one -/
theorem sq_sl38b {post : St1 → Prop} {B cy c X : Nat} {g : Nat → Int32} (hB : B + 352 ≤ 1408) (hcy : cy ≤ 1)
    (w' : Nat) (hw' : w' ≤ 352) (hc : c + 1 ≤ 352)
    (H : ∀ a3', sq_num (fun j => sq_by (a3' (B + j))) w' + 1 = X * 256 ^ c + cy → (∀ j, (j < B ∨ B + 352 ≤ j) → a3' j = g j) → wX_shiftLow_70 post dl pl fi co lw rg hd (nI (c + 1)) (nI B) (nI w') cd rd ml md a1 a2 a3' a4) :
    ∀ (m k w : Nat) (a3 : Nat → Int32), k + m = c → w + m = w' → sq_num (fun j => sq_by (a3 (B + j))) w + 1 = X * 256 ^ k + cy → (∀ j, (j < B ∨ B + 352 ≤ j) → a3 j = g j) →
      wX_shiftLow_38 post (nI cy) (m + 1) 255 (nI (k + 1)) dl pl fi co lw rg hd (nI (c + 1)) (nI B) (nI w) cd rd ml md a1 a2 a3 a4 := by
  intro m
  induction m with
  | zero =>
    intro k w a3 hk hw hn hg
    have ek : k = c := by omega
    have ew : w = w' := by omega
    subst ek ew
    exact pk_le (k + 1) (k + 1) (fun _ => H a3 hn hg) (fun z => absurd z (by omega))
  | succ m ih =>
    intro k w a3 hk hw hn hg
    refine pk_le (c + 1) (k + 1) (fun z => absurd z (by omega)) (fun _ => pk_le 352 (k + 1) (fun z => absurd z (by omega)) (fun _ => ?_))
    have e : (255 : Int32) + nI cy = nI (255 + cy) := nI_add 255 cy
    rw [e]
    refine sq_putByte (by omega) hB (nm_r (nI_1 (k + 1)) (ih (k + 1) (w + 1) _ (by omega) (by omega) ?_ ?_))
    · rw [sq_num_put, sq_by_w (by omega), Nat.pow_succ, ← Nat.mul_assoc]
      rcases Nat.lt_or_ge cy 1 with z | z
      · have : cy = 0 := by omega
        subst this
        omega
      · have : cy = 1 := by omega
        subst this
        omega
    · intro j hj
      rw [pk_un (by omega)]
      exact hg j hj
/-- the whole row of held bytes is put out -/
theorem sq_sl38 {post : St1 → Prop} {B cy c w h : Nat} {g : Nat → Int32} (hB : B + 352 ≤ 1408) (hcy : cy ≤ 1) (hh : h + cy < 256)
    (hw : w + c + 1 ≤ 352) (hg : ∀ j, (j < B ∨ B + 352 ≤ j) → a3 j = g j)
    (H : ∀ a3', sq_num (fun j => sq_by (a3' (B + j))) (w + c + 1) + 1 = (sq_num (fun j => sq_by (a3 (B + j))) w * 256 + h + 1) * 256 ^ c + cy → (∀ j, (j < B ∨ B + 352 ≤ j) → a3' j = g j) → wX_shiftLow_70 post dl pl fi co lw rg (nI h) (nI (c + 1)) (nI B) (nI (w + c + 1)) cd rd ml md a1 a2 a3' a4) :
    ∃ n, wX_shiftLow_38 post (nI cy) n (nI h) 0 dl pl fi co lw rg (nI h) (nI (c + 1)) (nI B) (nI w) cd rd ml md a1 a2 a3 a4 := by
  refine ⟨c + 1 + 1, ?_⟩
  refine pk_le (c + 1) 0 (fun z => absurd z (by omega)) (fun _ => pk_le 352 0 (fun z => absurd z (by omega)) (fun _ => ?_))
  rw [nI_add]
  refine sq_putByte (by omega) hB (nm_r (nI_1 0) (sq_sl38b (X := sq_num (fun j => sq_by (a3 (B + j))) w * 256 + h + 1) hB hcy (w + c + 1) hw (by omega) H c 0 (w + 1) _ (by omega) (by omega) ?_ ?_))
  · rw [sq_num_put, sq_by_w (by omega), Nat.mod_eq_of_lt hh, Nat.pow_zero]
    omega
  · intro j hj
    rw [pk_un (by omega)]
    exact hg j hj
/-- behind the flush -/
theorem sq_sl70 {post : St1 → Prop} {lo : Nat} (hlo : lo < 8589934592) (H : post (dl, pl, fi, co, lN (lo % 16777216 * 256), rg, nI (lo / 16777216 % 256), nI 1, bs, wr, cd, rd, ml, md, a1, a2, a3, a4)) : wX_shiftLow_70 post dl pl fi co (lN lo) rg hd hc bs wr cd rd ml md a1 a2 a3 a4 := by
  refine nm_r (e' := nI (lo / 16777216 % 256)) ?_ (nm_r (nI_1 0) (nm_r ?_ H))
  · rw [sq_shr24 (by omega), lN_i]
    exact pk_andN (by omega) 8 (by decide)
  · rw [sq_mask24 (by omega), sq_shl8]
theorem sq_flow1 {X c cy h' l L W : Nat} (hW : W + 1 = X * 256 ^ c + cy) (hL : L + 4294967296 = X * 256 ^ c * 4294967296 + (cy * 4294967296 + h' * 16777216 + l)) : L * 256 + 4294967296 = (W * 256 + h' + 1) * 4294967296 + l * 256 := by
  generalize X * 256 ^ c = Y at hW hL
  omega
theorem sq_flow2 {X c l L : Nat} (hL : L + 4294967296 = X * 256 ^ c * 4294967296 + (4278190080 + l)) : L * 256 + 4294967296 = X * 256 ^ (c + 1) * 4294967296 + l * 256 := by
  rw [Nat.pow_succ, ← Nat.mul_assoc]
  generalize X * 256 ^ c = Y at hL
  omega
theorem sq_shiftLow {post : St1 → Prop} {B : Nat} {g : Nat → Int32} {L S r lo h c w : Nat} (hB : B + 352 ≤ 1408) (hr0 : 1 ≤ r) (hr : r < 16777216) (hS : sq_Sh B g L S r lo h c w a3) (hS2 : S + 1 ≤ 352)
    (H : ∀ (h' c' w' : Nat) (a3' : Nat → Int32), sq_Sh B g (L * 256) (S + 1) (r * 256) (lo % 16777216 * 256) h' c' w' a3' → (lo < 4278190080 → c' = 0 ∧ h' = lo / 16777216) → post (dl, pl, fi, co, lN (lo % 16777216 * 256), rg, nI h', nI (c' + 1), nI B, nI w', cd, rd, ml, md, a1, a2, a3', a4)) :
    wpX_shiftLow post (dl, pl, fi, co, lN lo, rg, nI h, nI (c + 1), nI B, nI w, cd, rd, ml, md, a1, a2, a3, a4) := by
  obtain ⟨h1, h2, h3, h4, h5, h6⟩ := hS
  have flush : (lo < 4278190080 ∨ 4294967296 ≤ lo) → wX_shiftLow_22 post dl pl fi co (lN lo) rg (nI h) (nI (c + 1)) (nI B) (nI w) cd rd ml md a1 a2 a3 a4 := by
    intro hf
    have hcy : lo / 4294967296 ≤ 1 := by omega
    have hh : h + lo / 4294967296 < 256 := by
      rcases Nat.lt_or_ge h 255 with z | z
      · omega
      · have := h4 (by omega)
        omega
    refine nm_r (e' := nI (lo / 4294967296)) (by rw [sq_shr32 (by omega), lN_i]) ?_
    refine sq_sl38 hB hcy hh (by omega) h6 (fun a3' q1 q2 => sq_sl70 (by omega) ?_)
    refine H (lo / 16777216 % 256) 0 (w + c + 1) a3' ⟨by omega, by omega, by omega, ?_, ?_, q2⟩ (fun z => ⟨rfl, by omega⟩)
    · intro z
      omega
    · rw [Nat.pow_zero, Nat.mul_one]
      refine sq_flow1 q1 ?_
      rw [h5]
      omega
  refine sq_llt lo 4278190080 (fun z => flush (Or.inl z)) (fun z => sq_lle lo 4294967295 (fun z2 => ?_) (fun z2 => flush (Or.inr (by omega))) rfl rfl (by omega) (by omega)) rfl rfl (by omega) (by omega)
  refine nm_r (nI_1 (c + 1)) (nm_r (by rw [sq_mask24 (by omega), sq_shl8]) ?_)
  refine H h (c + 1) w a3 ⟨h1, by omega, by omega, ?_, ?_, h6⟩ (fun q => absurd q (by omega))
  · intro q
    have := h4 q
    omega
  · refine sq_flow2 ?_
    rw [h5]
    omega
end
end
section
/-! learn, writeBit, writeTree -/
section
variable {dl pl fi co : Int32} {lw rg : Int64} {hd hc bs wr : Int32} {cd : Int64} {rd ml md : Int32} {a1 a2 a3 a4 : Nat → Int32}
theorem sq_fill4 {a : Nat → Int32} {p : Nat → Nat} {k v : Nat} {x : Int32} (hp : ∀ j, j < 394 → a j = nI (p j)) (hx : x = nI v) : ∀ j, j < 394 → upd a k x j = nI (sq_upd p k v j) := by
  intro j hj
  by_cases e : j = k
  · rw [e, pk_us, sq_us, hx]
  · rw [pk_un e, sq_un e, hp j hj]
theorem sq_learn {post : St1 → Prop} {p : Nat → Nat} {k b : Nat} (hk : k < 394) (hb : b ≤ 1) (hp : ∀ j, j < 394 → a4 j = nI (p j)) (h1 : p k ≤ 2017) (H : ∀ a4', (∀ j, j < 394 → a4' j = nI (sq_upd p k (sq_lrn b (p k)) j)) → post (dl, pl, fi, co, lw, rg, hd, hc, bs, wr, cd, rd, ml, md, a1, a2, a3, a4')) : wpX_learn post (dl, pl, fi, co, lw, rg, hd, hc, bs, wr, cd, rd, ml, md, a1, a2, a3, a4) (nI k) (nI b) := by
  have hin := pk_in (x := nI k) k 394 hk
  have hcl : (nI k).toNatClampNeg = k := nI_clamp (by omega)
  refine pk_eq b 0 (fun z => ⟨hin, hin, hin, nm_r (by rw [hcl, hp k hk]) (H _ (sq_fill4 hp ?_))⟩) (fun z => ⟨hin, hin, hin, nm_r (by rw [hcl, hp k hk]) (H _ (sq_fill4 hp ?_))⟩)
  · have e1 : (2048 : Int32) - nI (p k) = nI (2048 - p k) := pk_sub (a := 2048) (by omega)
    have e2 : nI (2048 - p k) >>> ((5 : Int32) &&& 31) = nI ((2048 - p k) / 32) := pk_shrN (by omega) _ 5 (by decide)
    rw [e1, e2, nI_add]
    unfold sq_lrn
    rw [if_pos z]
  · have e2 : nI (p k) >>> ((5 : Int32) &&& 31) = nI (p k / 32) := pk_shrN (by omega) _ 5 (by decide)
    rw [e2, pk_sub (by omega)]
    unfold sq_lrn
    rw [if_neg z]
/-- the writer's state behind the decisions ds -/
def sq_En (ds : List (Nat × Nat)) (B : Nat) (g : Nat → Int32) (lw rg : Int64) (hd hc wr : Int32) (a3 a4 : Nat → Int32) : Prop :=
  ∃ lo h c w : Nat, lw = lN lo ∧ rg = lN (sq_R ds) ∧ hd = nI h ∧ hc = nI (c + 1) ∧ wr = nI w ∧ sq_Sh B g (sq_L ds) (sq_S ds) (sq_R ds) lo h c w a3 ∧ ∀ k, k < 394 → a4 k = nI (sq_P ds k)
theorem sq_L1_0 (ds : List (Nat × Nat)) (k : Nat) : sq_L1 ds k 0 = sq_L ds := if_pos rfl
theorem sq_R1_0 (ds : List (Nat × Nat)) (k : Nat) : sq_R1 ds k 0 = sq_B ds k := if_pos rfl
theorem sq_L1_1 (ds : List (Nat × Nat)) (k : Nat) : sq_L1 ds k 1 = sq_L ds + sq_B ds k := if_neg (by decide)
theorem sq_R1_1 (ds : List (Nat × Nat)) (k : Nat) : sq_R1 ds k 1 = sq_R ds - sq_B ds k := if_neg (by decide)
theorem sq_wb48 {post : St1 → Prop} {B : Nat} {g : Nat → Int32} {ds : List (Nat × Nat)} {k b lo h c w : Nat} (hB : B + 352 ≤ 1408) (hk : k < 394) (hb : b ≤ 1) (hl : ds.length ≤ 439)
    (hp : ∀ j, j < 394 → a4 j = nI (sq_P ds j)) (hS : sq_Sh B g (sq_L1 ds k b) (sq_S ds) (sq_R1 ds k b) lo h c w a3)
    (H : ∀ (lw' rg' : Int64) (hd' hc' wr' : Int32) (a3' a4' : Nat → Int32), sq_En (ds ++ [(k, b)]) B g lw' rg' hd' hc' wr' a3' a4' → post (dl, pl, fi, co, lw', rg', hd', hc', nI B, wr', cd, rd, ml, md, a1, a2, a3', a4')) :
    wX_writeBit_48 post (nI k) (nI b) dl pl fi co (lN lo) (lN (sq_R1 ds k b)) (nI h) (nI (c + 1)) (nI B) (nI w) cd rd ml md a1 a2 a3 a4 := by
  refine sq_learn hk hb hp (sq_Pin ds k).2 (fun a4' h4 => ?_)
  rw [← sq_P_s] at h4
  have h1 := sq_R1in ds k b
  have h2 := sq_Rhi ds
  refine sq_lle 16777216 (sq_R1 ds k b) (fun z => ?_) (fun z => nm_r (sq_shl8 _) ?_) rfl rfl (by omega) (by omega)
  · obtain ⟨e1, e2, e3⟩ := sq_non (Nat.not_lt.mpr z)
    exact H _ _ _ _ _ _ _ ⟨lo, h, c, w, rfl, by rw [e2], rfl, rfl, rfl, by rw [e1, e2, e3]; exact hS, h4⟩
  · obtain ⟨e1, e2, e3⟩ := sq_nrm z
    have h3 := sq_S_le (ds := ds) (by omega)
    exact sq_shiftLow hB (by omega) z hS (by omega) (fun h' c' w' a3' q _ => H _ _ _ _ _ _ _ ⟨_, h', c', w', rfl, by rw [e2], rfl, rfl, rfl, by rw [e1, e2, e3]; exact q, h4⟩)
theorem sq_writeBit {post : St1 → Prop} {B : Nat} {g : Nat → Int32} {ds : List (Nat × Nat)} {k b : Nat} (hB : B + 352 ≤ 1408) (hk : k < 394) (hb : b ≤ 1) (hl : ds.length ≤ 439) (hE : sq_En ds B g lw rg hd hc wr a3 a4)
    (H : ∀ (lw' rg' : Int64) (hd' hc' wr' : Int32) (a3' a4' : Nat → Int32), sq_En (ds ++ [(k, b)]) B g lw' rg' hd' hc' wr' a3' a4' → post (dl, pl, fi, co, lw', rg', hd', hc', nI B, wr', cd, rd, ml, md, a1, a2, a3', a4')) :
    wpX_writeBit post (dl, pl, fi, co, lw, rg, hd, hc, nI B, wr, cd, rd, ml, md, a1, a2, a3, a4) (nI k) (nI b) := by
  obtain ⟨lo, h, c, w, rfl, rfl, rfl, rfl, rfl, hS, hp⟩ := hE
  have h1 := sq_Bin ds k
  have h2 := sq_Rlo ds
  have h3 := sq_Rhi ds
  have h4 := sq_Pin ds k
  refine ⟨pk_in k 394 hk, nm_r (e' := lN (sq_B ds k)) ?_ (pk_eq b 0 (fun z => ?_) (fun z => nm_r (lN_add _ _) (nm_r (lN_sub (by omega)) ?_)))⟩
  · rw [nI_clamp (by omega), hp k hk, sq_shr11 (by omega), nI_l (by omega), lN_mul]
    rfl
  · subst z
    have hS' : sq_Sh B g (sq_L1 ds k 0) (sq_S ds) (sq_R1 ds k 0) lo h c w a3 := by
      rw [sq_L1_0, sq_R1_0]
      exact sq_Sh_0 hS (by omega)
    have := sq_wb48 hB hk hb hl hp hS' H
    rw [sq_R1_0] at this
    exact this
  · have e : b = 1 := by omega
    subst e
    have hS' : sq_Sh B g (sq_L1 ds k 1) (sq_S ds) (sq_R1 ds k 1) (lo + sq_B ds k) h c w a3 := by
      rw [sq_L1_1, sq_R1_1]
      exact sq_Sh_1 hS (by omega)
    have := sq_wb48 hB hk hb hl hp hS' H
    rw [sq_R1_1] at this
    exact this
/-- the decisions of a tree: M is the value with a 1 ahead of it -/
def sq_tr (q M : Nat) : Nat → List (Nat × Nat)
  | 0 => []
  | k + 1 => (q + M / 2 ^ (k + 1), M / 2 ^ k % 2) :: sq_tr q M k
theorem sq_tr_len (q M : Nat) : ∀ k, (sq_tr q M k).length = k := by
  intro k
  induction k with
  | zero => rfl
  | succ k ih => show (sq_tr q M k).length + 1 = k + 1; rw [ih]
theorem sq_half (M k : Nat) : M / 2 ^ (k + 1) = M / 2 ^ k / 2 := by rw [Nat.pow_succ, Nat.div_div_eq_div_mul]
theorem sq_trbit {bits v j : Nat} (h : j < bits) : v / 2 ^ j % 2 = (2 ^ bits + v) / 2 ^ j % 2 := by
  obtain ⟨e, rfl⟩ : ∃ e, bits = j + 1 + e := ⟨bits - j - 1, by omega⟩
  have h2 : 2 ^ (j + 1 + e) = 2 ^ j * (2 * 2 ^ e) := by rw [Nat.pow_add, Nat.pow_succ, Nat.mul_assoc]
  rw [h2, Nat.mul_add_div (Nat.pow_pos (by decide))]
  generalize 2 ^ e = t
  omega
theorem sq_trtop {bits v : Nat} (h : v < 2 ^ bits) : (2 ^ bits + v) / 2 ^ bits = 1 := by
  rw [Nat.add_div_left _ (Nat.pow_pos (by decide)), Nat.div_eq_of_lt h]
theorem sq_cnt : ∀ l, l < 32 → (((nI l).toUInt32 &&& Int32.toUInt32 31).toBitVec % 32).toNat = l := by decide +kernel
theorem sq_2x {M k : Nat} : (2 : Int32) * nI (M / 2 ^ (k + 1)) + nI (M / 2 ^ k % 2) = nI (M / 2 ^ k) := by
  have e : (2 : Int32) * nI (M / 2 ^ (k + 1)) = nI (2 * (M / 2 ^ (k + 1))) := pk_mul 2 _
  rw [e, nI_add, sq_half]
  congr 1
  omega
theorem sq_wt8 {post : St1 → Prop} {B q M v bits : Nat} {g : Nat → Int32} (hB : B + 352 ≤ 1408) (hM : q + M / 2 < 394) (hv : v < 2 ^ 31) (hb : bits ≤ 8) (hvb : ∀ j, j < bits → v / 2 ^ j % 2 = M / 2 ^ j % 2) :
    ∀ (k : Nat) (ds : List (Nat × Nat)) (lw rg : Int64) (hd hc wr x4 x5 : Int32) (a3 a4 : Nat → Int32), k ≤ bits → ds.length + k ≤ 440 → sq_En ds B g lw rg hd hc wr a3 a4 → x5 = nI k + (-1) → x4 = nI (M / 2 ^ k) →
      (∀ (lw' rg' : Int64) (hd' hc' wr' : Int32) (a3' a4' : Nat → Int32), sq_En (ds ++ sq_tr q M k) B g lw' rg' hd' hc' wr' a3' a4' → post (dl, pl, fi, co, lw', rg', hd', hc', nI B, wr', cd, rd, ml, md, a1, a2, a3', a4')) →
      wX_writeTree_8 post (nI q) (nI v) (k + 1) x4 x5 dl pl fi co lw rg hd hc (nI B) wr cd rd ml md a1 a2 a3 a4 := by
  intro k
  induction k with
  | zero =>
    intro ds lw rg hd hc wr x4 x5 a3 a4 hk hl hE hx5 hx4 H
    subst hx5
    rw [show sq_tr q M 0 = [] from rfl, List.append_nil] at H
    exact br_t (by decide) (H _ _ _ _ _ _ _ hE)
  | succ k ih =>
    intro ds lw rg hd hc wr x4 x5 a3 a4 hk hl hE hx5 hx4 H
    rw [pk_m1] at hx5
    subst hx5 hx4
    have e2 : M / 2 ^ (k + 1) ≤ M / 2 := by
      rw [Nat.pow_succ, Nat.mul_comm, ← Nat.div_div_eq_div_mul]
      exact Nat.div_le_self _ _
    refine pk_lt k 0 (fun z => absurd z (by omega)) (fun _ => nm_r (e' := nI (M / 2 ^ k % 2)) ?_ ?_)
    · rw [pk_ushrN (by omega) (nI k) k (sq_cnt k (by omega)), ← hvb k (by omega)]
      exact pk_andN (Nat.lt_of_le_of_lt (Nat.div_le_self _ _) (by omega)) 1 (by decide)
    · rw [nI_add]
      refine sq_writeBit hB (by omega) (by omega) (by omega) hE (fun lw' rg' hd' hc' wr' a3' a4' hE' => nm_r sq_2x (nm_e (ih _ lw' rg' hd' hc' wr' _ _ a3' a4' (by omega) ?_ hE' rfl rfl ?_)))
      · rw [List.length_append, List.length_singleton]
        omega
      · rw [List.append_assoc, List.singleton_append]
        exact H
theorem sq_writeTree {post : St1 → Prop} {B q v bits : Nat} {g : Nat → Int32} {ds : List (Nat × Nat)} (hB : B + 352 ≤ 1408) (hq : q + (2 ^ bits + v) / 2 < 394) (hv : v < 2 ^ bits) (hb : bits ≤ 8) (hl : ds.length + bits ≤ 440) (hE : sq_En ds B g lw rg hd hc wr a3 a4)
    (H : ∀ (lw' rg' : Int64) (hd' hc' wr' : Int32) (a3' a4' : Nat → Int32), sq_En (ds ++ sq_tr q (2 ^ bits + v) bits) B g lw' rg' hd' hc' wr' a3' a4' → post (dl, pl, fi, co, lw', rg', hd', hc', nI B, wr', cd, rd, ml, md, a1, a2, a3', a4')) :
    wpX_writeTree post (dl, pl, fi, co, lw, rg, hd, hc, nI B, wr, cd, rd, ml, md, a1, a2, a3, a4) (nI q) (nI bits) (nI v) := by
  have h8 : 2 ^ bits ≤ 2 ^ 8 := Nat.pow_le_pow_right (by decide) hb
  refine nm_r (e' := nI bits + (-1)) (Int32.sub_eq_add_neg _ _) ⟨bits + 1, ?_⟩
  exact sq_wt8 (M := 2 ^ bits + v) hB hq (by omega) hb (fun j hj => sq_trbit hj) bits ds lw rg hd hc wr 1 _ a3 a4 (Nat.le_refl _) hl hE rfl (by rw [sq_trtop hv]; rfl) H
end
end
section
/-! the tokens of a block: (n, d) with n < 2 is a literal, else a copy of n bytes from d back -/
def sq_dc (c : Nat → Nat) : List (Nat × Nat) → Nat → Nat → List (Nat × Nat)
  | [], _, _ => []
  | (n, d) :: T, f, i => if n < 2 then ((f, 0) :: sq_tr 66 (2 ^ 8 + c i) 8) ++ sq_dc c T 0 (i + 1) else ((f, 1) :: (sq_tr 322 (2 ^ 3 + (n - 2)) 3 ++ sq_tr 330 (2 ^ 6 + (d - 1)) 6)) ++ sq_dc c T 1 (i + n)
theorem sq_dc_nil (c : Nat → Nat) (f i : Nat) : sq_dc c [] f i = [] := rfl
theorem sq_dc_lit {c : Nat → Nat} {n d : Nat} (T : List (Nat × Nat)) (f i : Nat) (h : n < 2) : sq_dc c ((n, d) :: T) f i = ((f, 0) :: sq_tr 66 (2 ^ 8 + c i) 8) ++ sq_dc c T 0 (i + 1) := if_pos h
theorem sq_dc_cpy {c : Nat → Nat} {n d : Nat} (T : List (Nat × Nat)) (f i : Nat) (h : ¬ n < 2) : sq_dc c ((n, d) :: T) f i = ((f, 1) :: (sq_tr 322 (2 ^ 3 + (n - 2)) 3 ++ sq_tr 330 (2 ^ 6 + (d - 1)) 6)) ++ sq_dc c T 1 (i + n) := if_neg h
/-- a copy that is right -/
def sq_cp (c : Nat → Nat) (N i n d : Nat) : Prop := n ≤ 9 ∧ 1 ≤ d ∧ d ≤ i ∧ i + n ≤ N ∧ ∀ j, j < n → c (i + j) = c (i + j - d)
/-- the tokens write the content from place i to its end -/
def sq_ok (c : Nat → Nat) (N : Nat) : List (Nat × Nat) → Nat → Prop
  | [], i => i = N
  | (n, d) :: T, i => i < N ∧ (n < 2 → sq_ok c N T (i + 1)) ∧ (¬ n < 2 → sq_cp c N i n d ∧ sq_ok c N T (i + n))
/-- all decisions of a block -/
def sq_all (c : Nat → Nat) (N : Nat) (T : List (Nat × Nat)) : List (Nat × Nat) := sq_tr 2 (2 ^ 6 + N) 6 ++ sq_dc c T 0 0
/-- the block at B holds the content -/
def sq_Blk (B : Nat) (a3 : Nat → Int32) (N : Nat) (c : Nat → Nat) : Prop :=
  ∃ T, sq_ok c N T 0 ∧ sq_S (sq_all c N T) + 5 ≤ 352 ∧ sq_num (fun j => sq_by (a3 (B + j))) (sq_S (sq_all c N T) + 5) = sq_L (sq_all c N T)
theorem sq_Blk_keep {B : Nat} {a3 a3' : Nat → Int32} {N : Nat} {c : Nat → Nat} (h : sq_Blk B a3 N c) (hk : ∀ j, B ≤ j → j < B + 352 → a3' j = a3 j) : sq_Blk B a3' N c := by
  obtain ⟨T, h1, h2, h3⟩ := h
  refine ⟨T, h1, h2, ?_⟩
  rw [← h3]
  apply sq_num_congr
  intro j hj
  show sq_by (a3' (B + j)) = sq_by (a3 (B + j))
  rw [hk (B + j) (by omega) (by omega)]
end
section
/-! matchAt, findMatch, squeeze -/
section
variable {dl pl fi co : Int32} {lw rg : Int64} {hd hc bs wr : Int32} {cd : Int64} {rd ml md : Int32} {a1 a2 a3 a4 : Nat → Int32}
theorem sq_matchAt2 {post : Int32 → Prop} {N i d : Nat} (hN : N ≤ 48) (h1d : 1 ≤ d) (hdi : d ≤ i) (H : ∀ n, n ≤ 9 → i + n ≤ N → (∀ j, j < n → a1 (i + j) = a1 (i + j - d)) → post (nI n)) :
    ∀ (m k : Nat), k + m = 9 → i + k ≤ N → (∀ j, j < k → a1 (i + j) = a1 (i + j - d)) → wX_matchAt_2 post (nI i) (nI d) (nI N) pl fi co lw rg hd hc bs wr cd rd ml md a1 a2 a3 a4 (m + 1) (nI k) := by
  intro m
  induction m with
  | zero =>
    intro k hk hi hj
    exact pk_le 9 k (fun _ => H k (by omega) hi hj) (fun z => absurd z (by omega))
  | succ m ih =>
    intro k hk hi hj
    have e1 : nI i + nI k = nI (i + k) := nI_add i k
    have e2 : nI i + nI k - nI d = nI (i + k - d) := by rw [e1, pk_sub (by omega)]
    refine pk_le 9 k (fun z => absurd z (by omega)) (fun _ => pk_le N (i + k) (fun _ => H k (by omega) hi hj) (fun z => ⟨pk_in (i + k) 48 (by omega) e1, pk_in (i + k - d) 48 (by omega) e2, br_c (fun y => nm_r (nI_1 k) (ih (k + 1) (by omega) (by omega) ?_)) (fun _ => H k (by omega) hi hj)⟩) rfl e1)
    rw [e2, e1, nI_clamp (by omega), nI_clamp (by omega)] at y
    exact lt_s hj y
theorem sq_matchAt {post : Int32 → Prop} {N i d : Nat} (hN : N ≤ 48) (h1d : 1 ≤ d) (hdi : d ≤ i) (hi : i ≤ N) (H : ∀ n, n ≤ 9 → i + n ≤ N → (∀ j, j < n → a1 (i + j) = a1 (i + j - d)) → post (nI n)) :
    wpX_matchAt post (nI N, pl, fi, co, lw, rg, hd, hc, bs, wr, cd, rd, ml, md, a1, a2, a3, a4) (nI i) (nI d) := ⟨10, sq_matchAt2 hN h1d hdi H 9 0 rfl hi (fun j hj => absurd hj (by omega))⟩
/-- a match found -/
def sq_mt (a1 : Nat → Int32) (N i n d : Nat) : Prop := n = 0 ∨ (n ≤ 9 ∧ 1 ≤ d ∧ d ≤ i ∧ i + n ≤ N ∧ ∀ j, j < n → a1 (i + j) = a1 (i + j - d))
theorem sq_fm12 {post : St1 → Prop} {N i : Nat} (hN : N ≤ 48) (hi : i ≤ N) (H : ∀ n d, n ≤ 9 → d ≤ i → sq_mt a1 N i n d → post (nI N, pl, fi, co, lw, rg, hd, hc, bs, wr, cd, rd, nI n, nI d, a1, a2, a3, a4)) :
    ∀ (m k n d : Nat), k + m = i + 1 → 1 ≤ k → n ≤ 9 → d ≤ i → sq_mt a1 N i n d → wX_findMatch_12 post (nI i) (nI N) pl fi co lw rg hd hc bs wr cd rd a1 a2 a3 a4 (m + 1) (nI k) (nI n) (nI d) := by
  intro m
  induction m with
  | zero =>
    intro k n d hk h1 hn hd hm
    exact pk_lt i k (fun _ => H n d hn hd hm) (fun z => absurd z (by omega))
  | succ m ih =>
    intro k n d hk h1 hn hd hm
    refine pk_lt i k (fun z => absurd z (by omega)) (fun _ => sq_matchAt hN h1 (by omega) hi (fun r r1 r2 r3 => pk_le r n (fun _ => nm_r (nI_1 k) (ih (k + 1) n d (by omega) (by omega) hn hd hm)) (fun z => nm_r (nI_1 k) (ih (k + 1) r k (by omega) (by omega) r1 (by omega) (Or.inr ⟨r1, h1, by omega, r2, r3⟩)))))
theorem sq_findMatch {post : St1 → Prop} {N i : Nat} (hN : N ≤ 48) (hi : i ≤ N) (H : ∀ n d, n ≤ 9 → d ≤ i → sq_mt a1 N i n d → post (nI N, pl, fi, co, lw, rg, hd, hc, bs, wr, cd, rd, nI n, nI d, a1, a2, a3, a4)) : wpX_findMatch post (nI N, pl, fi, co, lw, rg, hd, hc, bs, wr, cd, rd, ml, md, a1, a2, a3, a4) (nI i) :=
  ⟨i + 1, sq_fm12 hN hi H i 1 0 0 (by omega) (by omega) (by omega) (by omega) (Or.inl rfl)⟩
theorem sq_start {post : St1 → Prop} (H : ∀ a4', (∀ k, k < 394 → a4' k = nI 1024) → post (dl, pl, fi, co, lw, rg, hd, hc, bs, wr, cd, rd, ml, md, a1, a2, a3, a4')) : wpX_startChances post (dl, pl, fi, co, lw, rg, hd, hc, bs, wr, cd, rd, ml, md, a1, a2, a3, a4) :=
  pk_loop (fun n i s => wX_startChances_2 post dl pl fi co lw rg hd hc bs wr cd rd ml md n (nI i) a1 a2 a3 s) (fun i s => ∀ k, k < i → s k = nI 1024) 394 0 a4 (by omega) (fun j hj => absurd hj (by omega))
    (fun n s h => pk_le 394 394 (fun _ => H s h) (fun z => absurd z (by omega)))
    (fun n i s hi h hw => pk_le 394 i (fun z => absurd z (by omega)) (fun _ => ⟨pk_in i 394 hi, nm_r (by rw [nI_clamp (by omega)]) (nm_r (nI_1 i) (hw _ (fun k hk => by
      by_cases e : k = i
      · rw [e, pk_us]; rfl
      · rw [pk_un e]; exact h k (by omega))))⟩))
theorem sq_155s {post : St1 → Prop} {B : Nat} {g : Nat → Int32} {L S lo h c w n k : Nat} (hB : B + 352 ≤ 1408) (hk : k < 5) (hS : sq_Sh B g L S 1 lo h c w a3) (hS2 : S + 1 ≤ 352)
    (H : ∀ (h' c' w' : Nat) (a3' : Nat → Int32), sq_Sh B g (L * 256) (S + 1) 1 (lo % 16777216 * 256) h' c' w' a3' → (lo < 4278190080 → c' = 0 ∧ h' = lo / 16777216) → wX_squeeze_155 post n (nI (k + 1)) dl pl fi co (lN (lo % 16777216 * 256)) rg (nI h') (nI (c' + 1)) (nI B) (nI w') cd rd ml md a1 a2 a3' a4) :
    wX_squeeze_155 post (n + 1) (nI k) dl pl fi co (lN lo) rg (nI h) (nI (c + 1)) (nI B) (nI w) cd rd ml md a1 a2 a3 a4 :=
  pk_le 5 k (fun z => absurd z (by omega)) (fun _ => sq_shiftLow hB (by omega) (by omega) hS hS2 (fun h' c' w' a3' q1 q2 => nm_r (nI_1 k) (H h' c' w' a3' (sq_Sh_0 q1 (by omega)) q2)))
theorem sq_lo4 (lo : Nat) : lo % 16777216 * 256 % 16777216 * 256 % 16777216 * 256 % 16777216 * 256 = 0 := by omega
/-- the end of a block -/
theorem sq_155 {post : St1 → Prop} {B : Nat} {g : Nat → Int32} {ds : List (Nat × Nat)} (hB : B + 352 ≤ 1408) (hl : ds.length ≤ 440) (hE : sq_En ds B g lw rg hd hc wr a3 a4)
    (H : ∀ (lw' : Int64) (hd' hc' wr' : Int32) (a3' : Nat → Int32), sq_num (fun j => sq_by (a3' (B + j))) (sq_S ds + 5) = sq_L ds → (∀ j, (j < B ∨ B + 352 ≤ j) → a3' j = g j) → post (dl, pl, fi, co, lw', rg, hd', hc', nI B, wr', cd, rd, ml, md, a1, a2, a3', a4)) :
    ∃ n, wX_squeeze_155 post n 0 dl pl fi co lw rg hd hc (nI B) wr cd rd ml md a1 a2 a3 a4 := by
  obtain ⟨lo, h, c, w, rfl, rfl, rfl, rfl, rfl, hS, hp⟩ := hE
  have h1 := sq_S_le hl
  have h2 := sq_Rlo ds
  have hS0 := sq_Sh_0 (bd := 1) hS (by omega)
  refine ⟨6, ?_⟩
  refine sq_155s (k := 0) hB (by omega) hS0 (by omega) (fun h1' c1 w1 b1 q1 _ => ?_)
  refine sq_155s (k := 1) hB (by omega) q1 (by omega) (fun h2' c2 w2 b2 q2 _ => ?_)
  refine sq_155s (k := 2) hB (by omega) q2 (by omega) (fun h3' c3 w3 b3 q3 _ => ?_)
  refine sq_155s (k := 3) hB (by omega) q3 (by omega) (fun h4' c4 w4 b4 q4 _ => ?_)
  rw [sq_lo4] at q4
  rw [sq_lo4]
  refine sq_155s (k := 4) hB (by omega) q4 (by omega) (fun h5' c5 w5 b5 q5 q6 => ?_)
  refine pk_le 5 5 (fun _ => H _ _ _ _ _ ?_ ?_) (fun z => absurd z (by omega))
  · obtain ⟨g1, g2⟩ := q6 (by omega)
    obtain ⟨s1, s2, s3, s4, s5, s6⟩ := q5
    subst g1 g2
    rw [Nat.pow_zero] at s5
    rw [show sq_S ds + 5 = w5 by omega]
    omega
  · exact q5.2.2.2.2.2
end
end
section
/-! squeeze -/
section
variable {dl pl fi co : Int32} {lw rg : Int64} {hd hc bs wr : Int32} {cd : Int64} {rd ml md : Int32} {a1 a2 a3 a4 : Nat → Int32}
theorem sq_writeTreeX {post : St1 → Prop} {B q v bits : Nat} {x : Int32} {g : Nat → Int32} {ds : List (Nat × Nat)} (hx : x = nI v) (hB : B + 352 ≤ 1408) (hq : q + (2 ^ bits + v) / 2 < 394) (hv : v < 2 ^ bits) (hb : bits ≤ 8) (hl : ds.length + bits ≤ 440) (hE : sq_En ds B g lw rg hd hc wr a3 a4)
    (H : ∀ (lw' rg' : Int64) (hd' hc' wr' : Int32) (a3' a4' : Nat → Int32), sq_En (ds ++ sq_tr q (2 ^ bits + v) bits) B g lw' rg' hd' hc' wr' a3' a4' → post (dl, pl, fi, co, lw', rg', hd', hc', nI B, wr', cd, rd, ml, md, a1, a2, a3', a4')) :
    wpX_writeTree post (dl, pl, fi, co, lw, rg, hd, hc, nI B, wr, cd, rd, ml, md, a1, a2, a3, a4) (nI q) (nI bits) x := by
  subst hx
  exact sq_writeTree hB hq hv hb hl hE H
theorem sq_mt_cp {c : Nat → Nat} {N i n d : Nat} (hc : ∀ j, j < N → c j < 256) (ha : ∀ j, j < N → a1 j = nI (c j)) (h : sq_mt a1 N i n d) (hn : ¬ n < 2) : sq_cp c N i n d := by
  rcases h with h | ⟨h1, h2, h3, h4, h5⟩
  · omega
  · refine ⟨h1, h2, h3, h4, fun j hj => ?_⟩
    have e := h5 j hj
    rw [ha (i + j) (by omega), ha (i + j - d) (by omega)] at e
    have c1 := hc (i + j) (by omega)
    have c2 := hc (i + j - d) (by omega)
    exact (nI_eq (by omega) (by omega)).mp e
theorem sq_sq48 {post : St1 → Prop} {B N : Nat} {c : Nat → Nat} {g : Nat → Int32} (hB : B + 352 ≤ 1408) (hN : N ≤ 47) (hcc : ∀ j, j < N → c j < 256) (ha : ∀ j, j < N → a1 j = nI (c j)) :
    ∀ (m i f st : Nat) (ds : List (Nat × Nat)) (lw rg : Int64) (hd hc wr ml md : Int32) (a3 a4 : Nat → Int32), N - i ≤ m → i ≤ N → st ≤ i → f ≤ 1 → ds.length ≤ 6 + 9 * i → sq_En ds B g lw rg hd hc wr a3 a4 →
      (∀ (T D : List (Nat × Nat)) (lw' rg' : Int64) (hd' hc' wr' ml' md' : Int32) (a3' a4' : Nat → Int32), sq_ok c N T i → D = ds ++ sq_dc c T f i → D.length ≤ 440 → sq_En D B g lw' rg' hd' hc' wr' a3' a4' →
        ∃ n, wX_squeeze_155 post n 0 (nI N) pl fi co lw' rg' hd' hc' (nI B) wr' cd rd ml' md' a1 a2 a3' a4') →
      wX_squeeze_48 post (m + 1) (nI f) (nI i) (nI st) (nI N) pl fi co lw rg hd hc (nI B) wr cd rd ml md a1 a2 a3 a4 := by
  intro m
  induction m with
  | zero =>
    intro i f st ds lw rg hd hc wr ml md a3 a4 hm hi hst hf hl hE H
    have e : i = N := by omega
    exact pk_le 48 st (fun z => absurd z (by omega)) (fun _ => pk_le N i (fun _ => H [] ds lw rg hd hc wr ml md a3 a4 e (by rw [sq_dc_nil, List.append_nil]) (by omega) hE) (fun z => absurd z (by omega)))
  | succ m ih =>
    intro i f st ds lw rg hd hc wr ml md a3 a4 hm hi hst hf hl hE H
    refine pk_le 48 st (fun z => absurd z (by omega)) (fun _ => pk_le N i (fun z => H [] ds lw rg hd hc wr ml md a3 a4 (show i = N by omega) (by rw [sq_dc_nil, List.append_nil]) (by omega) hE) (fun z => ?_))
    refine sq_findMatch (by omega) hi (fun n d hn hdi hmt => pk_lt n 2 (fun hn2 => ?_) (fun hn2 => ?_))
    · refine sq_writeBit (k := f) (b := 0) hB (by omega) (by omega) (by omega) hE (fun lw1 rg1 hd1 hc1 wr1 b3 b4 hE1 => ⟨pk_in i 48 (by omega), ?_⟩)
      have hci := hcc i z
      refine sq_writeTreeX (q := 66) (bits := 8) (v := c i) (by rw [nI_clamp (by omega)]; exact ha i z) hB (by omega) (by omega) (by omega) (by rw [List.length_append, List.length_singleton]; omega) hE1 (fun lw2 rg2 hd2 hc2 wr2 b3' b4' hE2 => nm_r (nI_1 i) (nm_r (nI_1 st) ?_))
      refine ih (i + 1) 0 (st + 1) _ lw2 rg2 hd2 hc2 wr2 _ _ b3' b4' (by omega) (by omega) (by omega) (by omega) ?_ hE2 (fun T D lw' rg' hd' hc' wr' ml' md' a3' a4' t1 t2 t3 t4 => H ((n, d) :: T) D lw' rg' hd' hc' wr' ml' md' a3' a4' ⟨z, fun _ => t1, fun q => absurd hn2 q⟩ ?_ t3 t4)
      · rw [List.length_append, List.length_append, List.length_singleton, sq_tr_len]
        omega
      · rw [t2, sq_dc_lit T f i hn2]
        simp only [List.append_assoc, List.cons_append, List.nil_append]
    · have hcp := sq_mt_cp hcc ha hmt (by omega)
      have hcp2 := hcp
      obtain ⟨p1, p2, p3, p4, p5⟩ := hcp2
      refine sq_writeBit (k := f) (b := 1) hB (by omega) (by omega) (by omega) hE (fun lw1 rg1 hd1 hc1 wr1 b3 b4 hE1 => ?_)
      refine sq_writeTreeX (q := 322) (bits := 3) (v := n - 2) (pk_sub (b := 2) hn2) hB (by omega) (by omega) (by omega) (by rw [List.length_append, List.length_singleton]; omega) hE1 (fun lw2 rg2 hd2 hc2 wr2 b3' b4' hE2 => ?_)
      refine sq_writeTreeX (q := 330) (bits := 6) (v := d - 1) (pk_sub (b := 1) p2) hB (by omega) (by omega) (by omega) (by rw [List.length_append, List.length_append, List.length_singleton, sq_tr_len]; omega) hE2 (fun lw3 rg3 hd3 hc3 wr3 b3'' b4'' hE3 => nm_r (nI_add i n) (nm_r (nI_1 st) ?_))
      refine ih (i + n) 1 (st + 1) _ lw3 rg3 hd3 hc3 wr3 _ _ b3'' b4'' (by omega) (by omega) (by omega) (by omega) ?_ hE3 (fun T D lw' rg' hd' hc' wr' ml' md' a3' a4' t1 t2 t3 t4 => H ((n, d) :: T) D lw' rg' hd' hc' wr' ml' md' a3' a4' ⟨z, fun q => absurd q (by omega), fun _ => ⟨hcp, t1⟩⟩ ?_ t3 t4)
      · rw [List.length_append, List.length_append, List.length_append, List.length_singleton, sq_tr_len, sq_tr_len]
        omega
      · rw [t2, sq_dc_cpy T f i (by omega)]
        simp only [List.append_assoc, List.cons_append, List.nil_append]
theorem sq_nilL : sq_L [] = 0 := rfl
theorem sq_nilR : sq_R [] = 4294967295 := rfl
theorem sq_nilS : sq_S [] = 0 := rfl
theorem sq_nilP (k : Nat) : sq_P [] k = 1024 := rfl
theorem sq_num_0 (f : Nat → Nat) : sq_num f 0 = 0 := rfl
theorem sq_En_0 {B : Nat} (h4 : ∀ k, k < 394 → a4 k = nI 1024) : sq_En [] B a3 0 4294967295 0 1 0 a3 a4 := by
  refine ⟨0, 0, 0, 0, rfl, ?_, rfl, rfl, rfl, ?_, ?_⟩
  · rw [sq_nilR]
    rfl
  · unfold sq_Sh
    rw [sq_nilL, sq_nilR, sq_nilS, sq_num_0, Nat.pow_zero]
    exact ⟨by omega, by omega, by omega, by omega, by omega, fun j _ => rfl⟩
  · intro k hk
    rw [sq_nilP]
    exact h4 k hk
theorem sq_squeeze {post : St1 → Prop} {B N : Nat} {c : Nat → Nat} (hB : B + 352 ≤ 1408) (hN : N ≤ 47) (hcc : ∀ j, j < N → c j < 256) (ha : ∀ j, j < N → a1 j = nI (c j))
    (H : ∀ (lw' rg' : Int64) (hd' hc' wr' ml' md' : Int32) (a3' a4' : Nat → Int32), sq_Blk B a3' N c → (∀ j, (j < B ∨ B + 352 ≤ j) → a3' j = a3 j) → post (nI N, pl, fi, co, lw', rg', hd', hc', nI B, wr', cd, rd, ml', md', a1, a2, a3', a4')) :
    wpX_squeeze post (nI N, pl, fi, co, lw, rg, hd, hc, nI B, wr, cd, rd, ml, md, a1, a2, a3, a4) := by
  refine sq_start (fun b4 h4 => ?_)
  refine sq_writeTree (q := 2) (bits := 6) (v := N) (ds := []) hB (by omega) (by omega) (by omega) (by decide) (sq_En_0 h4) (fun lw1 rg1 hd1 hc1 wr1 b3' b4' hE1 => ⟨N + 1, ?_⟩)
  refine sq_sq48 hB hN hcc ha N 0 0 0 _ lw1 rg1 hd1 hc1 wr1 _ _ b3' b4' (by omega) (by omega) (by omega) (by omega) (by rw [List.nil_append, sq_tr_len]; omega) hE1 (fun T D lw2 rg2 hd2 hc2 wr2 ml2 md2 c3 c4 t1 t2 t3 t4 => ?_)
  have hs := sq_S_le t3
  have e : D = sq_all c N T := t2
  subst e
  exact sq_155 hB t3 t4 (fun lw3 hd3 hc3 wr3 d3 u1 u2 => H _ _ _ _ _ _ _ _ _ ⟨T, t1, by omega, u1⟩ u2)
end
end
section
/-! takeByte, readBit, readTree -/
section
variable {dl pl fi co : Int32} {lw rg : Int64} {hd hc bs wr : Int32} {cd : Int64} {rd ml md : Int32} {a1 a2 a3 a4 : Nat → Int32}
theorem sq_takeByte {post : Int32 → St1 → Prop} {B r : Nat} (hB : B + 352 ≤ 1408) (hr : r < 352) (H : post (nI (sq_by (a3 (B + r)))) (dl, pl, fi, co, lw, rg, hd, hc, nI B, wr, cd, nI (r + 1), ml, md, a1, a2, a3, a4)) : wpX_takeByte post (dl, pl, fi, co, lw, rg, hd, hc, nI B, wr, cd, nI r, ml, md, a1, a2, a3, a4) := by
  refine pk_le 352 r (fun z => absurd z (by omega)) (fun _ => ⟨pk_in (B + r) 1408 (by omega) (nI_add B r), ?_⟩)
  rw [nI_add, nI_clamp (by omega), sq_by_and]
  exact nm_r (nI_1 r) H
/-- the reader's state behind the decisions ds -/
def sq_Dn (ds : List (Nat × Nat)) (B : Nat) (a3 : Nat → Int32) (rg cd : Int64) (rd : Int32) (a4 : Nat → Int32) : Prop :=
  rg = lN (sq_R ds) ∧ (∀ k, k < 394 → a4 k = nI (sq_P ds k)) ∧ rd = nI (5 + sq_S ds) ∧ ∃ x, cd = lN x ∧ x + sq_L ds = sq_num (fun j => sq_by (a3 (B + j))) (5 + sq_S ds)
/-- the block at B holds the decisions D -/
def sq_Fin (D : List (Nat × Nat)) (B : Nat) (a3 : Nat → Int32) : Prop := sq_S D + 5 ≤ 352 ∧ sq_num (fun j => sq_by (a3 (B + j))) (sq_S D + 5) = sq_L D
theorem sq_rb65 {post : Int32 → St1 → Prop} {B k b y : Nat} {D ds es : List (Nat × Nat)} (hB : B + 352 ≤ 1408) (hk : k < 394) (hb : b ≤ 1) (hF : sq_Fin D B a3) (hD : D = ds ++ (k, b) :: es)
    (hp : ∀ j, j < 394 → a4 j = nI (sq_P ds j)) (hy : y + sq_L1 ds k b = sq_num (fun j => sq_by (a3 (B + j))) (5 + sq_S ds))
    (H : ∀ (rg' cd' : Int64) (rd' : Int32) (a4' : Nat → Int32), sq_Dn (ds ++ [(k, b)]) B a3 rg' cd' rd' a4' → post (nI b) (dl, pl, fi, co, lw, rg', hd, hc, nI B, wr, cd', rd', ml, md, a1, a2, a3, a4')) :
    wX_readBit_65 post (nI k) (nI b) dl pl fi co lw (lN (sq_R1 ds k b)) hd hc (nI B) wr (lN y) (nI (5 + sq_S ds)) ml md a1 a2 a3 a4 := by
  refine sq_learn hk hb hp (sq_Pin ds k).2 (fun a4' h4 => ?_)
  rw [← sq_P_s] at h4
  have h1 := sq_R1in ds k b
  have h2 := sq_Rhi ds
  obtain ⟨f1, f2⟩ := hF
  have h3 := sq_rd1 (f := fun j => sq_by (a3 (B + j))) (fun j => sq_by_lt _) hD f2
  refine sq_lle 16777216 (sq_R1 ds k b) (fun z => ?_) (fun z => nm_r (sq_shl8 _) ?_) rfl rfl (by omega) (by omega)
  · obtain ⟨e1, e2, e3⟩ := sq_non (Nat.not_lt.mpr z)
    refine H _ _ _ _ ⟨by rw [e2], h4, by rw [e3], y, rfl, ?_⟩
    rw [e1, e3]
    exact hy
  · obtain ⟨e1, e2, e3⟩ := sq_nrm z
    have hD' : D = (ds ++ [(k, b)]) ++ es := by rw [hD, List.append_assoc, List.singleton_append]
    obtain ⟨m, n1, _, _⟩ := sq_nest es (ds ++ [(k, b)])
    rw [← hD', e3] at n1
    have hby := sq_by_lt (a3 (B + (5 + sq_S ds)))
    refine sq_takeByte hB (by omega) (nm_r (e' := lN (y * 256 + sq_by (a3 (B + (5 + sq_S ds))))) ?_ (H _ _ _ _ ⟨by rw [e2], h4, by rw [e3]; rfl, _, rfl, ?_⟩))
    · rw [sq_shl8, nI_l (by omega), sq_or8 hby (by omega)]
    · rw [e1, e3, show 5 + (sq_S ds + 1) = 5 + sq_S ds + 1 by omega, sq_num_s, ← hy]
      omega
theorem sq_readBit {post : Int32 → St1 → Prop} {B k b : Nat} {D ds es : List (Nat × Nat)} (hB : B + 352 ≤ 1408) (hk : k < 394) (hb : b ≤ 1) (hF : sq_Fin D B a3) (hD : D = ds ++ (k, b) :: es) (hE : sq_Dn ds B a3 rg cd rd a4)
    (H : ∀ (rg' cd' : Int64) (rd' : Int32) (a4' : Nat → Int32), sq_Dn (ds ++ [(k, b)]) B a3 rg' cd' rd' a4' → post (nI b) (dl, pl, fi, co, lw, rg', hd, hc, nI B, wr, cd', rd', ml, md, a1, a2, a3, a4')) :
    wpX_readBit post (dl, pl, fi, co, lw, rg, hd, hc, nI B, wr, cd, rd, ml, md, a1, a2, a3, a4) (nI k) := by
  obtain ⟨rfl, hp, rfl, x, rfl, hx⟩ := hE
  have h1 := sq_Bin ds k
  have h2 := sq_Rlo ds
  have h3 := sq_Rhi ds
  have h4 := sq_Pin ds k
  have h5 := sq_rd1 (f := fun j => sq_by (a3 (B + j))) (fun j => sq_by_lt _) hD hF.2
  have h6 := sq_R1in ds k b
  rw [← hx] at h5
  refine ⟨pk_in k 394 hk, nm_r (e' := lN (sq_B ds k)) ?_ (sq_lle (sq_B ds k) x (fun z => ?_) (fun z => ?_) rfl rfl (by omega) (by omega))⟩
  · rw [nI_clamp (by omega), hp k hk, sq_shr11 (by omega), nI_l (by omega), lN_mul]
    rfl
  · have e : b = 1 := by
      rcases Nat.lt_or_ge b 1 with q | q
      · have e0 : b = 0 := by omega
        subst e0
        rw [sq_L1_0, sq_R1_0] at h5
        omega
      · omega
    subst e
    refine br_f (by decide) (nm_r (lN_sub z) (nm_r (lN_sub (by omega)) ?_))
    have hy : x - sq_B ds k + sq_L1 ds k 1 = sq_num (fun j => sq_by (a3 (B + j))) (5 + sq_S ds) := by
      rw [sq_L1_1]
      omega
    have := sq_rb65 hB hk hb hF hD hp hy H
    rw [sq_R1_1] at this
    exact this
  · have e : b = 0 := by
      rcases Nat.lt_or_ge b 1 with q | q
      · omega
      · have e0 : b = 1 := by omega
        subst e0
        rw [sq_L1_1, sq_R1_1] at h5
        omega
    subst e
    refine br_t rfl ?_
    have hy : x + sq_L1 ds k 0 = sq_num (fun j => sq_by (a3 (B + j))) (5 + sq_S ds) := by
      rw [sq_L1_0]
      exact hx
    have := sq_rb65 hB hk hb hF hD hp hy H
    rw [sq_R1_0] at this
    exact this
theorem sq_rt5 {post : Int32 → St1 → Prop} {B q M bits : Nat} {D : List (Nat × Nat)} (hB : B + 352 ≤ 1408) (hM : q + M / 2 < 394) (hb : bits ≤ 8) (hF : sq_Fin D B a3) :
    ∀ (k : Nat) (ds es : List (Nat × Nat)) (rg cd : Int64) (rd x3 x4 : Int32) (a4 : Nat → Int32), k ≤ bits → D = ds ++ (sq_tr q M k ++ es) → sq_Dn ds B a3 rg cd rd a4 → x3 = nI (M / 2 ^ k) → x4 = nI (bits - k) →
      (∀ (rg' cd' : Int64) (rd' : Int32) (a4' : Nat → Int32), sq_Dn (ds ++ sq_tr q M k) B a3 rg' cd' rd' a4' → post (nI M - ((1 : Int32) <<< (nI bits &&& 31))) (dl, pl, fi, co, lw, rg', hd, hc, nI B, wr, cd', rd', ml, md, a1, a2, a3, a4')) →
      wX_readTree_5 post (nI q) (nI bits) (k + 1) x3 x4 dl pl fi co lw rg hd hc (nI B) wr cd rd ml md a1 a2 a3 a4 := by
  intro k
  induction k with
  | zero =>
    intro ds es rg cd rd x3 x4 a4 hk hD hE hx3 hx4 H
    rw [show sq_tr q M 0 = [] from rfl, List.append_nil] at H
    rw [Nat.pow_zero, Nat.div_one] at hx3
    subst hx3 hx4
    exact pk_le bits (bits - 0) (fun _ => H _ _ _ _ hE) (fun z => absurd z (by omega))
  | succ k ih =>
    intro ds es rg cd rd x3 x4 a4 hk hD hE hx3 hx4 H
    subst hx3 hx4
    have e2 : M / 2 ^ (k + 1) ≤ M / 2 := by
      rw [Nat.pow_succ, Nat.mul_comm, ← Nat.div_div_eq_div_mul]
      exact Nat.div_le_self _ _
    have hD1 : D = ds ++ (q + M / 2 ^ (k + 1), M / 2 ^ k % 2) :: (sq_tr q M k ++ es) := hD
    refine pk_le bits (bits - (k + 1)) (fun z => absurd z (by omega)) (fun _ => ?_)
    rw [nI_add]
    refine sq_readBit hB (by omega) (by omega) hF hD1 hE (fun rg' cd' rd' a4' hE' => nm_r sq_2x (nm_r (nI_1 _) (ih _ es rg' cd' rd' _ _ a4' (by omega) ?_ hE' rfl ?_ ?_)))
    · rw [hD1, List.append_assoc, List.singleton_append]
    · rw [show bits - (k + 1) + 1 = bits - k by omega]
    · rw [List.append_assoc, List.singleton_append]
      exact H
theorem sq_1sh : ∀ l, l < 9 → (1 : Int32) <<< (nI l &&& 31) = nI (2 ^ l) := by decide +kernel
theorem sq_readTree {post : Int32 → St1 → Prop} {B q v bits : Nat} {D ds es : List (Nat × Nat)} (hB : B + 352 ≤ 1408) (hq : q + (2 ^ bits + v) / 2 < 394) (hv : v < 2 ^ bits) (hb : bits ≤ 8) (hF : sq_Fin D B a3) (hD : D = ds ++ (sq_tr q (2 ^ bits + v) bits ++ es)) (hE : sq_Dn ds B a3 rg cd rd a4)
    (H : ∀ (rg' cd' : Int64) (rd' : Int32) (a4' : Nat → Int32), sq_Dn (ds ++ sq_tr q (2 ^ bits + v) bits) B a3 rg' cd' rd' a4' → post (nI v) (dl, pl, fi, co, lw, rg', hd, hc, nI B, wr, cd', rd', ml, md, a1, a2, a3, a4')) :
    wpX_readTree post (dl, pl, fi, co, lw, rg, hd, hc, nI B, wr, cd, rd, ml, md, a1, a2, a3, a4) (nI q) (nI bits) := by
  refine ⟨bits + 1, sq_rt5 hB hq hb hF bits ds es rg cd rd _ _ a4 (Nat.le_refl _) hD hE (by rw [sq_trtop hv]; rfl) (by rw [Nat.sub_self]; rfl) (fun rg' cd' rd' a4' h => ?_)⟩
  rw [sq_1sh bits (by omega), pk_sub (by omega), Nat.add_sub_cancel_left]
  exact H rg' cd' rd' a4' h
end
end
section
/-! copyBack, unsqueeze -/
section
variable {dl pl fi co : Int32} {lw rg : Int64} {hd hc bs wr : Int32} {cd : Int64} {rd ml md : Int32} {a1 a2 a3 a4 : Nat → Int32}
theorem sq_fill2 {a : Nat → Int32} {c : Nat → Nat} {i : Nat} {x : Int32} (h : ∀ j, j < i → a j = nI (c j)) (hx : x = nI (c i)) : ∀ j, j < i + 1 → upd a i x j = nI (c j) := by
  intro j hj
  by_cases e : j = i
  · rw [e, pk_us, hx]
  · rw [pk_un e]
    exact h j (by omega)
theorem sq_cb2 {post : St1 → Prop} {N i n d : Nat} {c : Nat → Nat} (hcp : sq_cp c N i n d) (hN : N ≤ 48) (H : ∀ a2', (∀ j, j < i + n → a2' j = nI (c j)) → post (dl, nI (i + n), fi, co, lw, rg, hd, hc, bs, wr, cd, rd, ml, md, a1, a2', a3, a4)) :
    ∀ (m k : Nat) (a2 : Nat → Int32), k + m = n → (∀ j, j < i + k → a2 j = nI (c j)) → wX_copyBack_2 post (nI n) (nI d) dl fi co lw rg hd hc bs wr cd rd ml md (m + 1) (nI k) (nI (i + k)) a1 a2 a3 a4 := by
  obtain ⟨p1, p2, p3, p4, p5⟩ := hcp
  intro m
  induction m with
  | zero =>
    intro k a2 hk h
    have e : k = n := by omega
    subst e
    exact pk_le k k (fun _ => H a2 h) (fun z => absurd z (by omega))
  | succ m ih =>
    intro k a2 hk h
    refine pk_le n k (fun z => absurd z (by omega)) (fun _ => pk_le 48 (i + k) (fun z => absurd z (by omega)) (fun _ => pk_lt (i + k) d (fun z => absurd z (by omega)) (fun _ => ⟨pk_in (i + k - d) 48 (by omega) (pk_sub (by omega)), pk_in (i + k) 48 (by omega), nm_r (by rw [pk_sub (by omega), nI_clamp (by omega), nI_clamp (by omega)]) (nm_r (nI_1 (i + k)) (nm_r (nI_1 k) (ih (k + 1) _ (by omega) ?_)))⟩)))
    refine sq_fill2 h ?_
    show _ = nI (c (i + k))
    rw [h (i + k - d) (by omega), ← p5 k (by omega)]
theorem sq_copyBack {post : St1 → Prop} {N i n d : Nat} {c : Nat → Nat} (hcp : sq_cp c N i n d) (hN : N ≤ 48) (h : ∀ j, j < i → a2 j = nI (c j)) (H : ∀ a2', (∀ j, j < i + n → a2' j = nI (c j)) → post (dl, nI (i + n), fi, co, lw, rg, hd, hc, bs, wr, cd, rd, ml, md, a1, a2', a3, a4)) : wpX_copyBack post (dl, nI i, fi, co, lw, rg, hd, hc, bs, wr, cd, rd, ml, md, a1, a2, a3, a4) (nI n) (nI d) :=
  ⟨n + 1, sq_cb2 hcp hN H n 0 a2 (by omega) h⟩
theorem sq_us74 {post : St1 → Prop} {B N : Nat} {c : Nat → Nat} {D : List (Nat × Nat)} (hB : B + 352 ≤ 1408) (hN : N ≤ 47) (hcc : ∀ j, j < N → c j < 256) (hF : sq_Fin D B a3)
    (H : ∀ (rg' cd' : Int64) (rd' : Int32) (a2' a4' : Nat → Int32), (∀ j, j < N → a2' j = nI (c j)) → post (dl, nI N, fi, co, lw, rg', hd, hc, nI B, wr, cd', rd', ml, md, a1, a2', a3, a4')) :
    ∀ (T ds : List (Nat × Nat)) (i f st : Nat) (rg cd : Int64) (rd : Int32) (a2 a4 : Nat → Int32), sq_ok c N T i → st ≤ i → f ≤ 1 → D = ds ++ sq_dc c T f i → sq_Dn ds B a3 rg cd rd a4 → (∀ j, j < i → a2 j = nI (c j)) →
      wX_unsqueeze_74 post (nI N) (T.length + 1) (nI f) (nI st) dl (nI i) fi co lw rg hd hc (nI B) wr cd rd ml md a1 a2 a3 a4 := by
  intro T
  induction T with
  | nil =>
    intro ds i f st rg cd rd a2 a4 hok hst hf hD hE h
    have e : i = N := hok
    subst e
    exact pk_le 48 st (fun z => absurd z (by omega)) (fun _ => pk_le i i (fun _ => H _ _ _ _ _ h) (fun z => absurd z (by omega)))
  | cons t T ih =>
    obtain ⟨n, d⟩ := t
    intro ds i f st rg cd rd a2 a4 hok hst hf hD hE h
    obtain ⟨hi, ok1, ok2⟩ := hok
    refine pk_le 48 st (fun z => absurd z (by omega)) (fun _ => pk_le N i (fun z => absurd z (by omega)) (fun _ => ?_))
    by_cases hn : n < 2
    · rw [sq_dc_lit T f i hn] at hD
      have hci := hcc i hi
      have hD1 : D = ds ++ (f, 0) :: (sq_tr 66 (2 ^ 8 + c i) 8 ++ sq_dc c T 0 (i + 1)) := hD
      have hD2 : D = (ds ++ [(f, 0)]) ++ (sq_tr 66 (2 ^ 8 + c i) 8 ++ sq_dc c T 0 (i + 1)) := by rw [hD1, List.append_assoc, List.singleton_append]
      have hD3 : D = ((ds ++ [(f, 0)]) ++ sq_tr 66 (2 ^ 8 + c i) 8) ++ sq_dc c T 0 (i + 1) := by rw [hD2]; simp only [List.append_assoc]
      refine sq_readBit (b := 0) hB (by omega) (by omega) hF hD1 hE (fun rg1 cd1 rd1 b4 hE1 => br_f (by decide) ?_)
      refine sq_readTree (q := 66) (bits := 8) (v := c i) hB (by omega) (by omega) (by omega) hF hD2 hE1 (fun rg2 cd2 rd2 c4 hE2 => ⟨pk_in i 48 (by omega), nm_r (by rw [nI_clamp (by omega)]) (nm_r (nI_1 i) (nm_r (nI_1 st) ?_))⟩)
      exact ih _ (i + 1) 0 (st + 1) rg2 cd2 rd2 _ c4 (ok1 hn) (by omega) (by omega) hD3 hE2 (sq_fill2 h rfl)
    · rw [sq_dc_cpy T f i hn] at hD
      obtain ⟨hcp, ok3⟩ := ok2 hn
      have hcp2 := hcp
      obtain ⟨p1, p2, p3, p4, p5⟩ := hcp2
      have hD1 : D = ds ++ (f, 1) :: (sq_tr 322 (2 ^ 3 + (n - 2)) 3 ++ (sq_tr 330 (2 ^ 6 + (d - 1)) 6 ++ sq_dc c T 1 (i + n))) := by rw [hD]; simp only [List.append_assoc, List.cons_append]
      have hD2 : D = (ds ++ [(f, 1)]) ++ (sq_tr 322 (2 ^ 3 + (n - 2)) 3 ++ (sq_tr 330 (2 ^ 6 + (d - 1)) 6 ++ sq_dc c T 1 (i + n))) := by rw [hD1, List.append_assoc, List.singleton_append]
      have hD3 : D = ((ds ++ [(f, 1)]) ++ sq_tr 322 (2 ^ 3 + (n - 2)) 3) ++ (sq_tr 330 (2 ^ 6 + (d - 1)) 6 ++ sq_dc c T 1 (i + n)) := by rw [hD2]; simp only [List.append_assoc]
      have hD4 : D = (((ds ++ [(f, 1)]) ++ sq_tr 322 (2 ^ 3 + (n - 2)) 3) ++ sq_tr 330 (2 ^ 6 + (d - 1)) 6) ++ sq_dc c T 1 (i + n) := by rw [hD3]; simp only [List.append_assoc]
      refine sq_readBit (b := 1) hB (by omega) (by omega) hF hD1 hE (fun rg1 cd1 rd1 b4 hE1 => br_t rfl ?_)
      refine sq_readTree (q := 322) (bits := 3) (v := n - 2) hB (by omega) (by omega) (by omega) hF hD2 hE1 (fun rg2 cd2 rd2 c4 hE2 => nm_r (e' := nI n) ?_ ?_)
      · have e : nI (n - 2) + 2 = nI (n - 2 + 2) := nI_add _ 2
        rw [e, show n - 2 + 2 = n by omega]
      refine sq_readTree (q := 330) (bits := 6) (v := d - 1) hB (by omega) (by omega) (by omega) hF hD3 hE2 (fun rg3 cd3 rd3 d4 hE3 => nm_r (e' := nI d) ?_ ?_)
      · rw [nI_1, show d - 1 + 1 = d by omega]
      refine sq_copyBack hcp (by omega) h (fun b2 h2 => nm_r (nI_1 st) ?_)
      exact ih _ (i + n) 1 (st + 1) rg3 cd3 rd3 b2 d4 ok3 (by omega) (by omega) hD4 hE3 h2
theorem sq_us23 {post : St1 → Prop} {B : Nat} (hB : B + 352 ≤ 1408) (h5 : sq_num (fun j => sq_by (a3 (B + j))) 5 < 4294967296)
    (H : wpX_readTree (fun r u => match u with | (dlz, plz, fiz, coz, lwz, rgz, hdz, hcz, bsz, wrz, cdz, rdz, mlz, mdz, a1z, a2z, a3z, a4z) => ∃ n, wX_unsqueeze_74 post r n 0 0 dlz 0 fiz coz lwz rgz hdz hcz bsz wrz cdz rdz mlz mdz a1z a2z a3z a4z) (dl, pl, fi, co, lw, rg, hd, hc, nI B, wr, lN (sq_num (fun j => sq_by (a3 (B + j))) 5), nI 5, ml, md, a1, a2, a3, a4) 2 6) :
    ∀ (m k : Nat), k + m = 5 → wX_unsqueeze_23 post (m + 1) (nI k) dl pl fi co lw rg hd hc (nI B) wr (lN (sq_num (fun j => sq_by (a3 (B + j))) k)) (nI k) ml md a1 a2 a3 a4 := by
  intro m
  induction m with
  | zero =>
    intro k hk
    have e : k = 5 := by omega
    subst e
    exact pk_le 5 5 (fun _ => H) (fun z => absurd z (by omega))
  | succ m ih =>
    intro k hk
    have hby := sq_by_lt (a3 (B + k))
    have hm := sq_num_mono (fun j => sq_by (a3 (B + j))) (k + 1) (4 - k)
    rw [show k + 1 + (4 - k) = 5 by omega, sq_num_s] at hm
    refine pk_le 5 k (fun z => absurd z (by omega)) (fun _ => sq_takeByte hB (by omega) (nm_r (e' := lN (sq_num (fun j => sq_by (a3 (B + j))) (k + 1))) ?_ (nm_r (nI_1 k) (ih (k + 1) (by omega)))))
    have hm2 : sq_num (fun j => sq_by (a3 (B + j))) k * 256 + sq_by (a3 (B + k)) ≤ sq_num (fun j => sq_by (a3 (B + j))) 5 := hm
    rw [sq_shl8, nI_l (by omega), sq_or8 hby (by omega), sq_mask32 (by omega), Nat.mod_eq_of_lt (by omega), sq_num_s]
theorem sq_Dn_0 {B : Nat} (h4 : ∀ k, k < 394 → a4 k = nI 1024) : sq_Dn [] B a3 4294967295 (lN (sq_num (fun j => sq_by (a3 (B + j))) 5)) (nI 5) a4 := by
  refine ⟨?_, ?_, ?_, _, rfl, ?_⟩
  · rw [sq_nilR]
    rfl
  · intro k hk
    rw [sq_nilP]
    exact h4 k hk
  · rw [sq_nilS]
  · rw [sq_nilL, sq_nilS]
    rfl
theorem sq_unsqueeze {post : St1 → Prop} {B N : Nat} {c : Nat → Nat} (hB : B + 352 ≤ 1408) (hN : N ≤ 47) (hcc : ∀ j, j < N → c j < 256) (hK : sq_Blk B a3 N c)
    (H : ∀ (rg' cd' : Int64) (rd' : Int32) (a2' a4' : Nat → Int32), (∀ j, j < N → a2' j = nI (c j)) → post (dl, nI N, fi, co, lw, rg', hd, hc, nI B, wr, cd', rd', ml, md, a1, a2', a3, a4')) : wpX_unsqueeze post (dl, pl, fi, co, lw, rg, hd, hc, nI B, wr, cd, rd, ml, md, a1, a2, a3, a4) := by
  obtain ⟨T, t1, t2, t3⟩ := hK
  have hF : sq_Fin (sq_all c N T) B a3 := ⟨t2, t3⟩
  have h5 := (sq_rdin (ds := []) (es := sq_all c N T) (f := fun j => sq_by (a3 (B + j))) (fun j => sq_by_lt _) rfl t3).2
  rw [sq_nilL, sq_nilR, sq_nilS] at h5
  have h5' : sq_num (fun j => sq_by (a3 (B + j))) 5 < 4294967296 := by
    have h6 : sq_num (fun j => sq_by (a3 (B + j))) 5 < 0 + 4294967295 := h5
    omega
  refine sq_start (fun b4 h4 => ⟨6, ?_⟩)
  refine sq_us23 hB h5' ?_ 5 0 rfl
  refine sq_readTree (q := 2) (bits := 6) (v := N) (D := sq_all c N T) (ds := []) (es := sq_dc c T 0 0) hB (by omega) (by omega) (by omega) hF rfl (sq_Dn_0 h4) (fun rg1 cd1 rd1 c4 hE1 => ⟨T.length + 1, ?_⟩)
  exact sq_us74 hB hN hcc hF H T _ 0 0 0 rg1 cd1 rd1 a2 c4 t1 (by omega) (by omega) rfl hE1 (fun j hj => absurd hj (by omega))
end
end
section
/-! what a seed stands for: based, distance, length, byteAt -/
def sd_b (x : Int32) : Nat := 1 + x.toBitVec.toNat % 32
def sd_5 (x : Int32) : Nat := (x >>> ((5 : Int32) &&& 31)).toBitVec.toNat % 32
def sd_m (x : Int32) : Nat := (x >>> ((10 : Int32) &&& 31)).toBitVec.toNat % 32 % 16
def sd_d (x : Int32) : Nat := 1 + sd_5 x % sd_b x
def sd_N (x : Int32) : Nat := if 0 ≤ x then sd_b x + sd_m x else 0
def sd_i (x : Int32) (k : Nat) : Nat := if sd_b x ≤ k then sd_b x - sd_d x + (k - sd_b x) % sd_d x else k
def sd_w (x : Int32) (z : Int32) : Int32 := (z * ((x >>> ((18 : Int32) &&& 31)) ||| 1)) + ((z >>> ((2 : Int32) &&& 31)) * x)
def sd_v (x : Int32) (z : Int32) : Int32 := if (x >>> ((15 : Int32) &&& 31)) &&& 7 = 0 then sd_w x z &&& 255 else (sd_w x z &&& 255) &&& ((x >>> ((15 : Int32) &&& 31)) &&& 7)
def sd_c (x : Int32) (k : Nat) : Nat := sq_by (sd_v x (nI (sd_i x k)))
theorem sd_b_in (x : Int32) : 1 ≤ sd_b x ∧ sd_b x ≤ 32 := by unfold sd_b; omega
theorem sd_m_lt (x : Int32) : sd_m x < 16 := by unfold sd_m; omega
theorem sd_d_in (x : Int32) : 1 ≤ sd_d x ∧ sd_d x ≤ sd_b x := by
  have h := (sd_b_in x).1
  have h2 : sd_5 x % sd_b x < sd_b x := Nat.mod_lt _ h
  unfold sd_d
  omega
theorem sd_N_le (x : Int32) : sd_N x ≤ 47 := by
  have h := sd_b_in x
  have h2 := sd_m_lt x
  unfold sd_N
  split <;> omega
theorem sd_c_lt (x : Int32) (k : Nat) : sd_c x k < 256 := sq_by_lt _
theorem sd_by {v : Nat} (h : v < 256) : sq_by (nI v) = v := by
  unfold sq_by
  rw [pk_tn (by omega), Nat.mod_eq_of_lt h]
theorem sd_v_by (x z : Int32) : sd_v x z = nI (sq_by (sd_v x z)) := by
  have key : ∃ j, j < 256 ∧ sd_v x z = nI j := by
    unfold sd_v
    split
    · exact pk_andE _ 8 (by decide)
    · obtain ⟨j, hj, e⟩ := pk_andE ((sd_w x z &&& 255) &&& (x >>> ((15 : Int32) &&& 31))) (m := 7) 3 (by decide)
      refine ⟨j, by omega, ?_⟩
      rw [← e, Int32.and_assoc (sd_w x z &&& 255)]
  obtain ⟨j, hj, e⟩ := key
  rw [e, sd_by hj]
theorem sd_based {post : Int32 → Prop} {x : Int32} (H : post (nI (sd_b x))) : wpL_based post () x := by
  have e : 1 + (x &&& 31) = nI (sd_b x) := by
    rw [pk_and x 5 (by decide)]
    exact nI_add 1 _
  unfold wpL_based
  rw [e]
  exact H
theorem sd_cnt (x : Int32) : ((x >>> ((10 : Int32) &&& 31)) &&& 31) &&& 15 = nI (sd_m x) := by
  rw [pk_and _ (m := 31) 5 (by decide)]
  exact pk_andN (by omega) 4 (by decide)
theorem sd_distance {post : Int32 → Prop} {x : Int32} (H : post (nI (sd_d x))) : wpL_distance post () x := by
  have hb := sd_b_in x
  refine sd_based ⟨nI_ne0 (by omega) (by omega), ?_⟩
  have e : (x >>> ((5 : Int32) &&& 31)) &&& 31 = nI (sd_5 x) := pk_and _ 5 (by decide)
  have h5 : sd_5 x < 32 := by unfold sd_5; omega
  rw [e, pk_rem (by omega) (by omega) (by omega)]
  have e2 : 1 + nI (sd_5 x % sd_b x) = nI (sd_d x) := nI_add 1 _
  rw [e2]
  exact H
theorem sd_length {post : Int32 → Prop} {x : Int32} (H : post (nI (sd_N x))) : wpL_length post () x := by
  unfold sd_N at H
  refine br_c (fun h => sd_based ?_) (fun h => ?_)
  · rw [if_pos h] at H
    rw [sd_cnt, nI_add]
    exact H
  · rw [if_neg h] at H
    exact H
theorem sd_b28 {post : Int32 → Prop} {x z : Int32} (H : post (sd_v x z)) : wL_byteAt_28 post x z := by
  unfold sd_v at H
  refine nm_e (nm_e (br_c (fun h => ?_) (fun h => ?_)))
  · rw [if_pos h] at H
    exact H
  · rw [if_neg h] at H
    exact H
theorem sd_byteAt {post : Int32 → Prop} {x : Int32} {k : Nat} (hk : k < 64) (H : post (nI (sd_c x k))) : wpL_byteAt post () x (nI k) := by
  have hb := sd_b_in x
  have hd := sd_d_in x
  unfold sd_c at H
  rw [← sd_v_by] at H
  unfold sd_i at H
  refine sd_based (sd_distance (pk_le (sd_b x) k (fun z => ⟨nI_ne0 (by omega) (by omega), ?_⟩) (fun z => ?_)))
  · rw [if_pos z] at H
    have h2 : (k - sd_b x) % sd_d x < sd_d x := Nat.mod_lt _ (by omega)
    rw [pk_sub (by omega), pk_sub (by omega), pk_rem (by omega) (by omega) (by omega), nI_add]
    exact sd_b28 H
  · rw [if_neg (by omega)] at H
    exact sd_b28 H
/-- what is repeated -/
theorem sd_c_rep (x : Int32) (j : Nat) : sd_c x (sd_b x + j) = sd_c x (sd_b x + j - sd_d x) := by
  have hb := sd_b_in x
  have hd := sd_d_in x
  have e : sd_i x (sd_b x + j) = sd_i x (sd_b x + j - sd_d x) := by
    unfold sd_i
    rw [if_pos (by omega), Nat.add_sub_cancel_left]
    rcases Nat.lt_or_ge j (sd_d x) with z | z
    · rw [if_neg (by omega), Nat.mod_eq_of_lt z]
      omega
    · rw [if_pos (by omega), Nat.mod_eq_sub_mod z, show sd_b x + j - sd_d x - sd_b x = j - sd_d x by omega]
  unfold sd_c
  rw [e]
section
variable {dl pl fi co : Int32} {lw rg : Int64} {hd hc bs wr : Int32} {cd : Int64} {rd ml md : Int32} {a1 a2 a3 a4 : Nat → Int32}
/-! put, repeat, draw -/
theorem sd_put {post : Int32 → St1 → Prop} {k v : Nat} (hk : k < 48) (hv : v < 256) (H : post (nI (k + 1)) (nI (k + 1), pl, fi, co, lw, rg, hd, hc, bs, wr, cd, rd, ml, md, upd a1 k (nI v), a2, a3, a4)) : wpX_put post (nI k, pl, fi, co, lw, rg, hd, hc, bs, wr, cd, rd, ml, md, a1, a2, a3, a4) (nI v) := by
  have e : nI v &&& 255 = nI v := by rw [sq_by_and, sd_by hv]
  refine pk_lt k 48 (fun _ => ⟨pk_in k 48 hk, nm_r (by rw [nI_clamp (by omega), e]) (nm_r (nI_1 k) ?_)⟩) (fun z => absurd z (by omega))
  exact H
theorem sd_rep33 {post : Int32 → St1 → Prop} {x : Int32} (hb : sd_b x + sd_m x ≤ 48) (H : ∀ a1', (∀ j, j < sd_b x + sd_m x → a1' j = nI (sd_c x j)) → post (nI (sd_b x + sd_m x)) (nI (sd_b x + sd_m x), pl, fi, co, lw, rg, hd, hc, bs, wr, cd, rd, ml, md, a1', a2, a3, a4)) :
    ∀ (m k : Nat) (a1 : Nat → Int32), k + m = sd_m x → (∀ j, j < sd_b x + k → a1 j = nI (sd_c x j)) → wX_repeat_33 post (nI (sd_d x)) (nI (sd_m x)) pl fi co lw rg hd hc bs wr cd rd ml md (m + 1) (nI k) (nI (sd_b x + k)) a1 a2 a3 a4 := by
  have hd := sd_d_in x
  intro m
  induction m with
  | zero =>
    intro k a1 hk h
    have e : k = sd_m x := by omega
    subst e
    exact pk_le (sd_m x) (sd_m x) (fun _ => H a1 h) (fun z => absurd z (by omega))
  | succ m ih =>
    intro k a1 hk h
    refine pk_le (sd_m x) k (fun z => absurd z (by omega)) (fun _ => ⟨pk_in (sd_b x + k - sd_d x) 48 (by omega) (pk_sub (by omega)), pk_in (sd_b x + k) 48 (by omega), nm_r (by rw [pk_sub (by omega), nI_clamp (by omega), nI_clamp (by omega)]) (nm_r (nI_1 (sd_b x + k)) (nm_r (nI_1 k) (ih (k + 1) _ (by omega) ?_)))⟩)
    refine sq_fill2 h ?_
    show _ = nI (sd_c x (sd_b x + k))
    rw [h (sd_b x + k - sd_d x) (by omega), ← sd_c_rep]
theorem sd_repeat {post : Int32 → St1 → Prop} {x : Int32} (h : ∀ j, j < sd_b x → a1 j = nI (sd_c x j)) (H : ∀ r a1', (∀ j, j < sd_b x + sd_m x → a1' j = nI (sd_c x j)) → post r (nI (sd_b x + sd_m x), pl, fi, co, lw, rg, hd, hc, bs, wr, cd, rd, ml, md, a1', a2, a3, a4)) :
    wpX_repeat post (nI (sd_b x), pl, fi, co, lw, rg, hd, hc, bs, wr, cd, rd, ml, md, a1, a2, a3, a4) (nI (sd_d x)) (nI (sd_m x)) := by
  have hb := sd_b_in x
  have hd := sd_d_in x
  have hm := sd_m_lt x
  refine pk_lt (sd_d x) 1 (fun z => absurd z (by omega)) (fun _ => pk_lt (sd_b x) (sd_d x) (fun z => absurd z (by omega)) (fun _ => pk_lt (sd_m x) 1 (fun z => ?_) (fun _ => pk_le (sd_m x) (48 - sd_b x) (fun _ => ?_) (fun z => absurd z (by omega)) rfl (pk_sub (a := 48) (by omega)))))
  · have e : sd_b x + sd_m x = sd_b x := by omega
    rw [e] at H
    exact H _ a1 h
  · exact ⟨sd_m x + 1, sd_rep33 (by omega) (fun a1' h' => H _ a1' h') (sd_m x) 0 a1 (by omega) h⟩
theorem sd_draw15 {post : St1 → Prop} {x : Int32} (H : ∀ a1', (∀ j, j < sd_b x + sd_m x → a1' j = nI (sd_c x j)) → post (nI (sd_b x + sd_m x), pl, fi, co, lw, rg, hd, hc, bs, wr, cd, rd, ml, md, a1', a2, a3, a4)) :
    ∀ (m k : Nat) (a1 : Nat → Int32), k + m = sd_b x → (∀ j, j < k → a1 j = nI (sd_c x j)) → wL_draw_15 post x (nI (sd_b x)) (m + 1) (nI k) (nI k) pl fi co lw rg hd hc bs wr cd rd ml md a1 a2 a3 a4 := by
  have hb := sd_b_in x
  intro m
  induction m with
  | zero =>
    intro k a1 hk h
    have e : k = sd_b x := by omega
    subst e
    refine pk_le (sd_b x) (sd_b x) (fun _ => sd_distance ?_) (fun z => absurd z (by omega))
    rw [sd_cnt]
    exact sd_repeat h (fun r a1' h' => H a1' h')
  | succ m ih =>
    intro k a1 hk h
    exact pk_le (sd_b x) k (fun z => absurd z (by omega)) (fun _ => sd_byteAt (by omega) (sd_put (by omega) (sd_c_lt x k) (nm_r (nI_1 k) (ih (k + 1) _ (by omega) (sq_fill2 h rfl)))))
theorem sd_draw {post : St1 → Prop} {x : Int32} (H : ∀ a1', (∀ j, j < sd_N x → a1' j = nI (sd_c x j)) → post (nI (sd_N x), pl, fi, co, lw, rg, hd, hc, bs, wr, cd, rd, ml, md, a1', a2, a3, a4)) : wpL_draw post (dl, pl, fi, co, lw, rg, hd, hc, bs, wr, cd, rd, ml, md, a1, a2, a3, a4) x := by
  have h0 : (0 : Int32).toInt = 0 := by decide
  unfold sd_N at H
  refine br_c (fun h => ?_) (fun h => sd_based ⟨sd_b x + 1, ?_⟩)
  · rw [if_neg (by rw [Int32.le_iff_toInt_le]; rw [Int32.lt_iff_toInt_lt] at h; omega)] at H
    exact H a1 (fun j hj => absurd hj (by omega))
  · rw [if_pos (by rw [Int32.le_iff_toInt_le]; rw [Int32.lt_iff_toInt_lt] at h; omega)] at H
    exact sd_draw15 H (sd_b x) 0 a1 (by omega) (fun j hj => absurd hj (by omega))
/-! shows -/
theorem sd_at {post : Int32 → Prop} {N k : Nat} (hN : N ≤ 48) (hk : k ≤ N) (H1 : k < N → post (a2 k)) (H2 : k = N → post (-1)) : wpX_at post (dl, nI N, fi, co, lw, rg, hd, hc, bs, wr, cd, rd, ml, md, a1, a2, a3, a4) (nI k) := by
  refine pk_lt k 0 (fun z => absurd z (by omega)) (fun _ => pk_lt k N (fun z => ⟨pk_in k 48 (by omega), ?_⟩) (fun z => H2 (by omega)))
  rw [nI_clamp (by omega)]
  exact H1 z
theorem sd_shows26 {post : Int32 → Prop} {x : Int32} (h : ∀ j, j < sd_N x → a2 j = nI (sd_c x j)) (H : post 1) :
    ∀ (m k : Nat), k + m = sd_N x → wL_shows_26 post x (nI (sd_N x)) dl (nI (sd_N x)) fi co lw rg hd hc bs wr cd rd ml md a1 a2 a3 a4 (m + 1) (nI k) := by
  have hN := sd_N_le x
  intro m
  induction m with
  | zero =>
    intro k hk
    exact pk_le (sd_N x) k (fun _ => H) (fun z => absurd z (by omega))
  | succ m ih =>
    intro k hk
    refine pk_le (sd_N x) k (fun z => absurd z (by omega)) (fun _ => sd_at (by omega) (by omega) (fun z => sd_byteAt (by omega) (br_t (h k z) (nm_r (nI_1 k) (ih (k + 1) (by omega))))) (fun z => absurd z (by omega)))
theorem sd_shows {post : Int32 → Prop} {x : Int32} (h : ∀ j, j < sd_N x → a2 j = nI (sd_c x j)) (H : post 1) : wpL_shows post (dl, nI (sd_N x), fi, co, lw, rg, hd, hc, bs, wr, cd, rd, ml, md, a1, a2, a3, a4) x := by
  have hN := sd_N_le x
  unfold wpL_shows
  refine sd_length ?_
  refine br_t rfl ?_
  refine sd_at (N := sd_N x) (k := sd_N x) (by omega) (Nat.le_refl _) (fun z => absurd z (by omega)) (fun _ => br_t rfl ?_)
  exact ⟨sd_N x + 1, sd_shows26 h H (sd_N x) 0 (by omega)⟩
end
end
section
/-! send, receive, edit over the picture: the seeds of draft, page and of the blocks -/
def sq_bq (y0 y1 y2 y3 : Int32) (j : Nat) : Int32 := if j = 0 then y0 else if j = 1 then y1 else if j = 2 then y2 else y3
def sq_M (x2 x3 y0 y1 y2 y3 : Int32) (n : Nat) (dl pl fi co : Int32) (a1 a2 a3 : Nat → Int32) : Prop :=
  dl = nI (sd_N x2) ∧ pl = nI (sd_N x3) ∧ (∀ j, j < sd_N x2 → a1 j = nI (sd_c x2 j)) ∧ (∀ j, j < sd_N x3 → a2 j = nI (sd_c x3 j)) ∧ n ≤ 4 ∧ co = nI n ∧
  ∃ f, f < 4 ∧ fi = nI f ∧ ∀ j, j < n → sq_Blk (352 * ((f + j) % 4)) a3 (sd_N (sq_bq y0 y1 y2 y3 j)) (sd_c (sq_bq y0 y1 y2 y3 j))
theorem sq_bq_s {y0 y1 y2 y3 : Int32} : ∀ j, j < 3 → sq_bq y1 y2 y3 y3 j = sq_bq y0 y1 y2 y3 (j + 1) := by
  intro j hj
  have h : j = 0 ∨ j = 1 ∨ j = 2 := by omega
  rcases h with rfl | rfl | rfl <;> rfl
section
variable {dl pl fi co : Int32} {lw rg : Int64} {hd hc bs wr : Int32} {cd : Int64} {rd ml md : Int32} {a1 a2 a3 a4 : Nat → Int32}
theorem sq_send {post : Int32 → St1 → Prop} {x2 x3 y0 y1 y2 y3 : Int32} {n : Nat} (hM : sq_M x2 x3 y0 y1 y2 y3 n dl pl fi co a1 a2 a3) (hn : n < 4)
    (H : ∀ (lw' rg' : Int64) (hd' hc' bs' wr' ml' md' : Int32) (a3' a4' : Nat → Int32), (∀ z0 z1 z2 z3 : Int32, (∀ j, j < n → sq_bq z0 z1 z2 z3 j = sq_bq y0 y1 y2 y3 j) → sq_bq z0 z1 z2 z3 n = x2 → sq_M x2 x3 z0 z1 z2 z3 (n + 1) dl pl fi (nI (n + 1)) a1 a2 a3') →
      post (nI (n + 1)) (dl, pl, fi, nI (n + 1), lw', rg', hd', hc', bs', wr', cd, rd, ml', md', a1, a2, a3', a4')) : wpX_send post (dl, pl, fi, co, lw, rg, hd, hc, bs, wr, cd, rd, ml, md, a1, a2, a3, a4) := by
  obtain ⟨rfl, rfl, h1, h2, h3, rfl, f, hf, rfl, h4⟩ := hM
  have hmod : (f + n) % 4 < 4 := Nat.mod_lt _ (by decide)
  refine pk_lt n 4 (fun _ => nm_r (e' := nI (352 * ((f + n) % 4))) ?_ ?_) (fun z => absurd z (by omega))
  · have e : nI (f + n) &&& 3 = nI ((f + n) % 4) := pk_andN (by omega) 2 (by decide)
    rw [nI_add, e]
    exact pk_mul 352 _
  · refine sq_squeeze (by omega) (sd_N_le x2) (fun j _ => sd_c_lt x2 j) h1 (fun lw' rg' hd' hc' wr' ml' md' a3' a4' k1 k2 => nm_r (nI_1 n) (H lw' rg' hd' hc' _ wr' ml' md' a3' a4' (fun z0 z1 z2 z3 e1 e2 => ⟨rfl, rfl, h1, h2, by omega, rfl, f, hf, rfl, fun j hj => ?_⟩)))
    rcases Nat.lt_or_ge j n with z | z
    · rw [e1 j z]
      have hm2 : (f + j) % 4 < 4 := Nat.mod_lt _ (by decide)
      have hne : (f + j) % 4 ≠ (f + n) % 4 := by omega
      exact sq_Blk_keep (h4 j z) (fun q q1 q2 => k2 q (by omega))
    · have e : j = n := by omega
      subst e
      rw [e2]
      exact k1
theorem sq_sendF {post : Int32 → St1 → Prop} {x2 x3 y0 y1 y2 y3 : Int32} (hM : sq_M x2 x3 y0 y1 y2 y3 4 dl pl fi co a1 a2 a3) (H : post (-1) (dl, pl, fi, co, lw, rg, hd, hc, bs, wr, cd, rd, ml, md, a1, a2, a3, a4)) : wpX_send post (dl, pl, fi, co, lw, rg, hd, hc, bs, wr, cd, rd, ml, md, a1, a2, a3, a4) := by
  obtain ⟨rfl, rfl, h1, h2, h3, rfl, h4⟩ := hM
  exact br_f (by decide) H
theorem sq_receive {post : Int32 → St1 → Prop} {x2 x3 y0 y1 y2 y3 : Int32} {n : Nat} (hM : sq_M x2 x3 y0 y1 y2 y3 (n + 1) dl pl fi co a1 a2 a3)
    (H : ∀ (pl' fi' : Int32) (rg' : Int64) (bs' : Int32) (cd' : Int64) (rd' : Int32) (a2' a4' : Nat → Int32), sq_M x2 y0 y1 y2 y3 y3 n dl pl' fi' (nI n) a1 a2' a3 → post (nI (sd_N y0)) (dl, pl', fi', nI n, lw, rg', hd, hc, bs', wr, cd', rd', ml, md, a1, a2', a3, a4')) : wpX_receive post (dl, pl, fi, co, lw, rg, hd, hc, bs, wr, cd, rd, ml, md, a1, a2, a3, a4) := by
  obtain ⟨rfl, rfl, h1, h2, h3, rfl, f, hf, rfl, h4⟩ := hM
  refine pk_eq (n + 1) 0 (fun z => absurd z (by omega)) (fun _ => nm_r (e' := nI (352 * f)) (pk_mul 352 f) ?_)
  have hb := h4 0 (by omega)
  rw [show (f + 0) % 4 = f by omega] at hb
  refine sq_unsqueeze (by omega) (sd_N_le y0) (fun j _ => sd_c_lt y0 j) hb (fun rg' cd' rd' a2' a4' k1 => nm_r (e' := nI ((f + 1) % 4)) ?_ (nm_r (nI_pred n) (H _ _ rg' _ cd' rd' a2' a4' ⟨rfl, rfl, h1, k1, by omega, rfl, (f + 1) % 4, by omega, rfl, fun j hj => ?_⟩)))
  · rw [nI_1]
    exact pk_andN (by omega) 2 (by decide)
  · have hb2 := h4 (j + 1) (by omega)
    rw [sq_bq_s (y0 := y0) j (by omega), show ((f + 1) % 4 + j) % 4 = (f + (j + 1)) % 4 by omega]
    exact hb2
theorem sq_receive0 {post : Int32 → St1 → Prop} {x2 x3 y0 y1 y2 y3 : Int32} (hM : sq_M x2 x3 y0 y1 y2 y3 0 dl pl fi co a1 a2 a3) (H : post (-1) (dl, pl, fi, co, lw, rg, hd, hc, bs, wr, cd, rd, ml, md, a1, a2, a3, a4)) : wpX_receive post (dl, pl, fi, co, lw, rg, hd, hc, bs, wr, cd, rd, ml, md, a1, a2, a3, a4) := by
  obtain ⟨rfl, rfl, h1, h2, h3, rfl, h4⟩ := hM
  exact br_t rfl H
theorem sq_edit {post : St1 → Prop} {x2 x3 y0 y1 y2 y3 : Int32} {n : Nat} (hM : sq_M x2 x3 y0 y1 y2 y3 n dl pl fi co a1 a2 a3)
    (H : ∀ (dl' : Int32) (a1' : Nat → Int32), sq_M x3 x3 y0 y1 y2 y3 n dl' pl fi co a1' a2 a3 → post (dl', pl, fi, co, lw, rg, hd, hc, bs, wr, cd, rd, ml, md, a1', a2, a3, a4)) : wpX_edit post (dl, pl, fi, co, lw, rg, hd, hc, bs, wr, cd, rd, ml, md, a1, a2, a3, a4) := by
  obtain ⟨rfl, rfl, h1, h2, h3, rfl, f, hf, rfl, h4⟩ := hM
  have hN := sd_N_le x3
  exact pk_loop (fun m i s => wX_edit_2 post (nI (sd_N x2)) (nI (sd_N x3)) (nI f) (nI n) lw rg hd hc bs wr cd rd ml md m (nI i) s a2 a3 a4) (fun i s => ∀ j, j < i → s j = nI (sd_c x3 j)) (sd_N x3) 0 a1 (by omega) (fun j hj => absurd hj (by omega))
    (fun m s h => pk_le (sd_N x3) (sd_N x3) (fun _ => H _ s ⟨rfl, rfl, h, h2, h3, rfl, f, hf, rfl, h4⟩) (fun z => absurd z (by omega)))
    (fun m i s hi h hw => pk_le (sd_N x3) i (fun z => absurd z (by omega)) (fun _ => ⟨pk_in i 48 (by omega), pk_in i 48 (by omega), nm_r (by rw [nI_clamp (by omega)]) (nm_r (nI_1 i) (hw _ (sq_fill2 h (h2 i hi))))⟩))
end
end
section
/-! the law's loop -/
section
variable {dl pl fi co : Int32} {lw rg : Int64} {hd hc bs wr : Int32} {cd : Int64} {rd ml md : Int32} {a1 a2 a3 a4 : Nat → Int32}
variable {post : Int32 → Prop} {L : Nat} {xs : Nat → Int32} {J30 : Int32 → Int32 → Int32 → Int32 → Int32 → Int32 → Int32 → Int32 → Int32 → Int32 → Int32 → Int32 → Int64 → Int64 → Int32 → Int32 → Int32 → Int32 → Int64 → Int32 → Int32 → Int32 → (Nat → Int32) → (Nat → Int32) → (Nat → Int32) → (Nat → Int32) → Prop} {x2 x3 y0 y1 y2 y3 x9 : Int32} {n kc ks : Nat}
theorem sq_l237 (hM : sq_M x2 x3 y0 y1 y2 y3 n dl pl fi co a1 a2 a3) (H : J30 x2 x3 y0 y1 y2 y3 (nI n) (x9 + 2) dl pl fi co lw rg hd hc bs wr cd rd ml md a1 a2 a3 a4) : wL_law_237 post L xs J30 x2 x3 y0 y1 y2 y3 (nI n) x9 kc ks dl pl fi co lw rg hd hc bs wr cd rd ml md a1 a2 a3 a4 := by
  obtain ⟨rfl, rfl, h1, h2, h3, rfl, h4⟩ := hM
  exact br_t rfl (sd_shows h2 (br_f (by decide) (nm_e H)))
theorem sq_l93 (hn : n < 4) (H : ∀ z0 z1 z2 z3 : Int32, (∀ j, j < n → sq_bq z0 z1 z2 z3 j = sq_bq y0 y1 y2 y3 j) → sq_bq z0 z1 z2 z3 n = x2 → wL_law_237 post L xs J30 x2 x3 z0 z1 z2 z3 (nI (n + 1)) x9 kc ks dl pl fi co lw rg hd hc bs wr cd rd ml md a1 a2 a3 a4) :
    wL_law_93 post L xs J30 x2 x3 y0 y1 y2 y3 (nI n) x9 (nI n + 1) (nI (n + 1)) kc ks dl pl fi co lw rg hd hc bs wr cd rd ml md a1 a2 a3 a4 := by
  have h : n = 0 ∨ n = 1 ∨ n = 2 ∨ n = 3 := by omega
  refine br_t (nI_1 n).symm ?_
  rcases h with rfl | rfl | rfl | rfl
  · refine br_t rfl (br_f (by decide) (br_f (by decide) (br_f (by decide) (br_f (by decide) ?_))))
    unfold wL_law_167
    rw [nI_1]
    exact H x2 y1 y2 y3 (fun j hj => absurd hj (by omega)) rfl
  · refine br_f (by decide) (br_t rfl (br_f (by decide) (br_f (by decide) (br_f (by decide) ?_))))
    unfold wL_law_167
    rw [nI_1]
    refine H y0 x2 y2 y3 (fun j hj => ?_) rfl
    have e : j = 0 := by omega
    subst e
    rfl
  · refine br_f (by decide) (br_f (by decide) (br_t rfl (br_f (by decide) (br_f (by decide) ?_))))
    unfold wL_law_167
    rw [nI_1]
    refine H y0 y1 x2 y3 (fun j hj => ?_) rfl
    have e : j = 0 ∨ j = 1 := by omega
    rcases e with rfl | rfl <;> rfl
  · refine br_f (by decide) (br_f (by decide) (br_f (by decide) (br_t rfl (br_f (by decide) ?_))))
    unfold wL_law_167
    rw [nI_1]
    refine H y0 y1 y2 x2 (fun j hj => ?_) rfl
    have e : j = 0 ∨ j = 1 ∨ j = 2 := by omega
    rcases e with rfl | rfl | rfl <;> rfl
theorem sq_l93F (H : wL_law_237 post L xs J30 x2 x3 y0 y1 y2 y3 (nI 4) x9 kc ks dl pl fi co lw rg hd hc bs wr cd rd ml md a1 a2 a3 a4) : wL_law_93 post L xs J30 x2 x3 y0 y1 y2 y3 (nI 4) x9 (-1) (-1) kc ks dl pl fi co lw rg hd hc bs wr cd rd ml md a1 a2 a3 a4 :=
  br_t rfl (br_f (by decide) (br_f (by decide) (br_f (by decide) (br_f (by decide) (br_t rfl H)))))
theorem sq_l69 {k : Nat} (hk : k < 8) (hM : sq_M x2 x3 y0 y1 y2 y3 n dl pl fi co a1 a2 a3)
    (HJ : ∀ (x2 x3 y0 y1 y2 y3 : Int32) (n : Nat) (dl pl fi co : Int32) (lw rg : Int64) (hd hc bs wr : Int32) (cd : Int64) (rd ml md : Int32) (a1 a2 a3 a4 : Nat → Int32), sq_M x2 x3 y0 y1 y2 y3 n dl pl fi co a1 a2 a3 → J30 x2 x3 y0 y1 y2 y3 (nI n) (x9 + 2) dl pl fi co lw rg hd hc bs wr cd rd ml md a1 a2 a3 a4) :
    wL_law_69 post L xs J30 x2 x3 y0 y1 y2 y3 (nI n) x9 (nI k) kc ks dl pl fi co lw rg hd hc bs wr cd rd ml md a1 a2 a3 a4 := by
  have hn : n ≤ 4 := hM.2.2.2.2.1
  refine pk_lt 4 k (fun _ => pk_lt 6 k (fun _ => ?_) (fun _ => ?_)) (fun _ => ?_)
  · exact sq_edit hM (fun dl' a1' hM' => sq_l237 hM' (HJ _ _ _ _ _ _ _ _ _ _ _ _ _ _ _ _ _ _ _ _ _ _ _ _ _ hM'))
  · cases n with
    | zero =>
      refine sq_receive0 hM (br_t rfl (br_t rfl (br_t (by decide) ?_)))
      exact sq_l237 hM (HJ _ _ _ _ _ _ _ _ _ _ _ _ _ _ _ _ _ _ _ _ _ _ _ _ _ hM)
    | succ n =>
      refine sq_receive hM (fun pl' fi' rg' bs' cd' rd' a2' a4' hM' => br_f (nI_ne0 (by omega) (by omega)) (sd_length (br_t rfl (br_f (nI_nle (by omega) (by omega)) (nm_r (nI_pred n) ?_)))))
      exact sq_l237 hM' (HJ _ _ _ _ _ _ _ _ _ _ _ _ _ _ _ _ _ _ _ _ _ _ _ _ _ hM')
  · rcases Nat.lt_or_ge n 4 with z | z
    · refine sq_send hM z (fun lw' rg' hd' hc' bs' wr' ml' md' a3' a4' hM' => pk_eq n 4 (fun q => absurd q (by omega)) (fun _ => sq_l93 z (fun z0 z1 z2 z3 e1 e2 => ?_)))
      exact sq_l237 (hM' z0 z1 z2 z3 e1 e2) (HJ _ _ _ _ _ _ _ _ _ _ _ _ _ _ _ _ _ _ _ _ _ _ _ _ _ (hM' z0 z1 z2 z3 e1 e2))
    · have e : n = 4 := by omega
      subst e
      refine sq_sendF hM (br_t rfl (sq_l93F ?_))
      exact sq_l237 hM (HJ _ _ _ _ _ _ _ _ _ _ _ _ _ _ _ _ _ _ _ _ _ _ _ _ _ hM)
theorem sq_l30 (hL : L ≤ 260) (H : post 1) :
    ∀ (m i : Nat), L - i ≤ m → i ≤ L → ∀ (x2 x3 y0 y1 y2 y3 : Int32) (n : Nat) (dl pl fi co : Int32) (lw rg : Int64) (hd hc bs wr : Int32) (cd : Int64) (rd ml md : Int32) (a1 a2 a3 a4 : Nat → Int32), sq_M x2 x3 y0 y1 y2 y3 n dl pl fi co a1 a2 a3 →
      wL_law_30 post L xs kc ks (m + 1) x2 x3 y0 y1 y2 y3 (nI n) (nI i) dl pl fi co lw rg hd hc bs wr cd rd ml md a1 a2 a3 a4 := by
  intro m
  induction m with
  | zero =>
    intro i hi hi2 x2 x3 y0 y1 y2 y3 n dl pl fi co lw rg hd hc bs wr cd rd ml md a1 a2 a3 a4 hM
    exact pk_lt L (i + 2) (fun _ => H) (fun z => absurd z (by omega)) rfl (nI_add i 2)
  | succ m ih =>
    intro i hi hi2 x2 x3 y0 y1 y2 y3 n dl pl fi co lw rg hd hc bs wr cd rd ml md a1 a2 a3 a4 hM
    refine pk_lt L (i + 2) (fun _ => H) (fun z => ⟨pk_in i L (by omega), ?_⟩) rfl (nI_add i 2)
    obtain ⟨k, hk, ek⟩ := pk_andE (xs (nI i).toNatClampNeg) (m := 7) 3 (by decide)
    have HJ : ∀ (x2 x3 y0 y1 y2 y3 : Int32) (n : Nat) (dl pl fi co : Int32) (lw rg : Int64) (hd hc bs wr : Int32) (cd : Int64) (rd ml md : Int32) (a1 a2 a3 a4 : Nat → Int32), sq_M x2 x3 y0 y1 y2 y3 n dl pl fi co a1 a2 a3 → wL_law_30 post L xs kc ks (m + 1) x2 x3 y0 y1 y2 y3 (nI n) (nI i + 2) dl pl fi co lw rg hd hc bs wr cd rd ml md a1 a2 a3 a4 := by
      have e : nI i + 2 = nI (i + 2) := nI_add i 2
      rw [e]
      exact ih (i + 2) (by omega) (by omega)
    refine nm_r ek (pk_lt 2 k (fun _ => sq_l69 hk hM HJ) (fun _ => ⟨pk_in (i + 1) L (by omega) (nI_1 i), nm_e (sd_draw (fun a1' h1 => ?_))⟩))
    obtain ⟨g1, g2, g3, g4, g5⟩ := hM
    exact sq_l69 hk ⟨rfl, g2, h1, g4, g5⟩ HJ
end
theorem sd_N_m1 : sd_N (-1) = 0 := if_neg (by decide)
theorem sq_M0 : sq_M (-1) (-1) (-1) (-1) (-1) (-1) 0 0 0 0 0 (fun _ => 0) (fun _ => 0) (fun _ => 0) := by
  unfold sq_M
  rw [sd_N_m1]
  exact ⟨rfl, rfl, fun j hj => absurd hj (by omega), fun j hj => absurd hj (by omega), by omega, rfl, 0, by omega, rfl, fun j hj => absurd hj (by omega)⟩
theorem i_vc (xs : Nat → Int32) (L : Nat) (hL : L ≤ 260) : wpL_law (fun r => r = 1) L xs := by
  refine ⟨4, 1898, by omega, by omega, by omega, by omega, by omega, by omega, by omega, by omega, by omega, by omega, ⟨L + 1, ?_⟩⟩
  exact sq_l30 (post := fun r => r = 1) hL rfl L 0 (by omega) (by omega) _ _ _ _ _ _ 0 _ _ _ _ _ _ _ _ _ _ _ _ _ _ _ _ _ _ sq_M0
end
