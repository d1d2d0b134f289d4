section
/-! ===== the pure picture: a table is a natural below 2^64, sums are lists of integers ===== -/
def qw_lw : Nat → Nat
  | 0 => 6148914691236517205
  | 1 => 3689348814741910323
  | 2 => 1085102592571150095
  | 3 => 71777214294589695
  | 4 => 281470681808895
  | _ => 4294967295
/-- transformed: one step, i steps -/
def qw_tr1 (v i : Nat) : Nat := v ^^^ ((v &&& qw_lw i) * 2 ^ (2 ^ i))
def qw_tr (v : Nat) : Nat → Nat
  | 0 => v
  | i + 1 => qw_tr1 (qw_tr v i) i
/-- moved -/
def qw_mv1 (v i : Nat) : Nat := ((v &&& qw_lw i) * 2 ^ (2 ^ i)) ||| ((v / 2 ^ (2 ^ i)) &&& qw_lw i)
def qw_mv (v a : Nat) : Nat → Nat
  | 0 => v
  | i + 1 => if a / 2 ^ i % 2 = 1 then qw_mv1 (qw_mv v a i) i else qw_mv v a i
/-- linear -/
def qw_ln (b : Nat) : Nat → Nat
  | 0 => 0
  | i + 1 => if b / 2 ^ i % 2 = 1 then qw_ln b i ^^^ (qw_lw i ^^^ 18446744073709551615) else qw_ln b i
/-- onesOf -/
def qw_o1 (v : Nat) : Nat := v - ((v / 2) &&& 6148914691236517205)
def qw_o2 (a : Nat) : Nat := (a &&& 3689348814741910323) + ((a / 4) &&& 3689348814741910323)
def qw_o3 (b : Nat) : Nat := (b + b / 16) &&& 1085102592571150095
def qw_on (v : Nat) : Nat := (qw_o3 (qw_o2 (qw_o1 v)) * 72340172838076673) % 18446744073709551616 / 72057594037927936
/-- sizeOf -/
def qw_sz (u : Nat) : Nat → Nat
  | 0 => 0
  | i + 1 => qw_sz u i + u / 2 ^ i % 2
/-- variables -/
def qw_vr (v : Nat) : Nat → Nat
  | 0 => 0
  | i + 1 => if qw_mv v (2 ^ i) 6 = v then qw_vr v i else qw_vr v i ||| 2 ^ i
/-- the b that shifted reads -/
def qw_rd (w : Nat) : Nat → Nat
  | 0 => 0
  | i + 1 => qw_rd w i ||| (w / 2 ^ (2 ^ i) % 2 * 2 ^ i)
/-- spread: one layer, i layers, as functions -/
def qw_L (i : Nat) (f : Nat → Int) (x : Nat) : Int := if x / 2 ^ i % 2 = 1 then f (x - 2 ^ i) - f x else f x + f (x + 2 ^ i)
def qw_T (f : Nat → Int) : Nat → Nat → Int
  | 0 => f
  | i + 1 => qw_L i (qw_T f i)
/-- the same as a list (by the recursors: quick in the kernel) -/
noncomputable def qw_zw (f : Int → Int → Int) (A : List Int) : List Int → List Int → List Int :=
  List.rec (motive := fun _ => List Int → List Int → List Int) (fun _ r => r) (fun a _ ih B r => List.casesOn (motive := fun _ => List Int) B r (fun b B2 => f a b :: ih B2 r)) A
noncomputable def qw_bf (A B : List Int) : List Int := qw_zw Int.add A B (qw_zw Int.sub A B [])
noncomputable def qw_W (f : Nat → Int) (n : Nat) : Nat → List Int :=
  Nat.rec (motive := fun _ => Nat → List Int) (fun o => [f o]) (fun n ih o => qw_bf (ih o) (ih (o + 2 ^ n))) n
def qw_F (v x : Nat) : Int := if v / 2 ^ x % 2 = 1 then -1 else 1
noncomputable def qw_S (v : Nat) : List Int := qw_W (qw_F v) 6 0
def qw_sq (l : List Int) (x : Nat) : Int := l.getD x 0 * l.getD x 0
noncomputable def qw_C (v : Nat) : List Int := qw_W (qw_sq (qw_S v)) 6 0
/-! ===== the law's own picture: turn t, pairs p ===== -/
def qw_pl (t i : Nat) : Nat := (i + t) % 6
def qw_p1 (t i : Nat) : Nat := 2 ^ qw_pl t (2 * i)
def qw_p2 (t i : Nat) : Nat := 2 ^ qw_pl t (2 * i + 1)
def qw_us (t : Nat) : Nat → Nat
  | 0 => 0
  | i + 1 => (qw_us t i ||| qw_p1 t i) ||| qw_p2 t i
def qw_tb (t : Nat) : Nat → Nat
  | 0 => 0
  | i + 1 => qw_tb t i ^^^ qw_tr (2 ^ (qw_p1 t i ||| qw_p2 t i)) 6
def qw_od (c t : Nat) : Nat → Nat
  | 0 => 0
  | i + 1 => if c &&& qw_p1 t i = 0 then qw_od c t i else if c &&& qw_p2 t i = 0 then qw_od c t i else qw_od c t i ^^^ 1
def qw_hi (p : Nat) : Nat := if p = 1 then 32 else if p = 2 then 16 else 8
def qw_wd (p : Nat) : Nat := if p = 1 then 16 else if p = 2 then 4 else 1
/-- the affine tables -/
def qw_af (k : Nat) : Nat := if k < 64 then qw_ln k 6 else qw_ln (k - 64) 6 ^^^ 18446744073709551615
/-- the affine table's number -/
def qw_ix (w : Nat) : Nat := if w % 2 = 0 then qw_rd w 6 else (qw_rd w 6 ^^^ 63) + 64
def qw_pt : Nat → Nat
  | 0 => 0
  | i + 1 => qw_pt i ^^^ 2 ^ (2 ^ i)
/-- points of size over 2; of size 2 -/
def qw_m3 : Nat := 18446461400418674816
def qw_m2 : Nat := 282668995843688
def qw_cn (q : Nat → Bool) : Nat → Nat
  | 0 => 0
  | j + 1 => if q j = true then qw_cn q j + 1 else qw_cn q j
end
section
/-! ===== what the kernel computes ===== -/
def qw_mx (h : Nat) (l : List Int) : Bool := l.all (fun z => Nat.ble z.natAbs h) && l.any (fun z => Nat.beq z.natAbs h)
def qw_d2 (f : Nat) : Bool := Nat.beq (f &&& qw_m3) 0 && !(Nat.beq (f &&& qw_m2) 0)
/-- t1 = a ^ w against t0 = a -/
def qw_kp (a h w b : Nat) : Bool := Nat.ble (32 - h / 2) (qw_on b) && (Nat.ble (qw_on b) (32 + h / 2) && (qw_d2 (qw_tr b 6) && (Nat.beq (qw_on (a &&& b) + qw_on (a ||| b)) (qw_on a + qw_on b) && (Nat.beq (qw_on (a ||| b)) (qw_on (a &&& b) + qw_on w) && Nat.beq (qw_on (w ^^^ 18446744073709551615) + qw_on w) 64))))
noncomputable def qw_ck (a h w : Nat) : Bool := qw_kp a h w (a ^^^ w) && qw_mx h (qw_S (a ^^^ w))
noncomputable def qw_c1 (a h : Nat) : Bool := (List.range 128).all (fun k => qw_ck a h (qw_af k))
/-- an affine table -/
noncomputable def qw_ca (w : Nat) : Bool := qw_mx 64 (qw_S w) && ((qw_C w).all (fun z => Nat.beq z.natAbs 4096) && Nat.beq (qw_tr w 6 &&& (qw_m3 ||| qw_m2)) 0)
theorem qw_k01 : qw_c1 (qw_tb 0 1) (qw_hi 1) = true := by decide +kernel
theorem qw_k02 : qw_c1 (qw_tb 0 2) (qw_hi 2) = true := by decide +kernel
theorem qw_k03 : qw_c1 (qw_tb 0 3) (qw_hi 3) = true := by decide +kernel
theorem qw_k11 : qw_c1 (qw_tb 1 1) (qw_hi 1) = true := by decide +kernel
theorem qw_k12 : qw_c1 (qw_tb 1 2) (qw_hi 2) = true := by decide +kernel
theorem qw_k13 : qw_c1 (qw_tb 1 3) (qw_hi 3) = true := by decide +kernel
theorem qw_k21 : qw_c1 (qw_tb 2 1) (qw_hi 1) = true := by decide +kernel
theorem qw_k22 : qw_c1 (qw_tb 2 2) (qw_hi 2) = true := by decide +kernel
theorem qw_k23 : qw_c1 (qw_tb 2 3) (qw_hi 3) = true := by decide +kernel
theorem qw_k31 : qw_c1 (qw_tb 3 1) (qw_hi 1) = true := by decide +kernel
theorem qw_k32 : qw_c1 (qw_tb 3 2) (qw_hi 2) = true := by decide +kernel
theorem qw_k33 : qw_c1 (qw_tb 3 3) (qw_hi 3) = true := by decide +kernel
theorem qw_k41 : qw_c1 (qw_tb 4 1) (qw_hi 1) = true := by decide +kernel
theorem qw_k42 : qw_c1 (qw_tb 4 2) (qw_hi 2) = true := by decide +kernel
theorem qw_k43 : qw_c1 (qw_tb 4 3) (qw_hi 3) = true := by decide +kernel
theorem qw_k51 : qw_c1 (qw_tb 5 1) (qw_hi 1) = true := by decide +kernel
theorem qw_k52 : qw_c1 (qw_tb 5 2) (qw_hi 2) = true := by decide +kernel
theorem qw_k53 : qw_c1 (qw_tb 5 3) (qw_hi 3) = true := by decide +kernel
theorem qw_KA : (List.range 128).all (fun k => qw_ca (qw_af k)) = true := by decide +kernel
theorem qw_K1 : ∀ t, t < 6 → ∀ p, p < 4 → 1 ≤ p → qw_c1 (qw_tb t p) (qw_hi p) = true
  | 0, _, 1, _, _ => qw_k01
  | 0, _, 2, _, _ => qw_k02
  | 0, _, 3, _, _ => qw_k03
  | 1, _, 1, _, _ => qw_k11
  | 1, _, 2, _, _ => qw_k12
  | 1, _, 3, _, _ => qw_k13
  | 2, _, 1, _, _ => qw_k21
  | 2, _, 2, _, _ => qw_k22
  | 2, _, 3, _, _ => qw_k23
  | 3, _, 1, _, _ => qw_k31
  | 3, _, 2, _, _ => qw_k32
  | 3, _, 3, _, _ => qw_k33
  | 4, _, 1, _, _ => qw_k41
  | 4, _, 2, _, _ => qw_k42
  | 4, _, 3, _, _ => qw_k43
  | 5, _, 1, _, _ => qw_k51
  | 5, _, 2, _, _ => qw_k52
  | 5, _, 3, _, _ => qw_k53
  | _, _, 0, _, h => absurd h (by decide)
  | t + 6, h, _, _, _ => absurd h (by omega)
  | _, _, p + 4, h, _ => absurd h (by omega)
/-- t0 at c -/
noncomputable def qw_c0 (a u h c o : Nat) : Bool := decide ((qw_S a).getD c 0 = if c &&& (63 ^^^ u) = 0 then (if o = 1 then -(h : Int) else (h : Int)) else 0) && (decide ((qw_C a).getD c 0 = if c &&& u = 0 then 4096 else 0) && Nat.beq (a / 2 ^ c % 2) o)
theorem qw_K0 : ∀ t, t < 6 → ∀ p, p < 4 → 1 ≤ p → ∀ c, c < 64 → qw_c0 (qw_tb t p) (qw_us t p) (qw_hi p) c (qw_od c t p) = true := by decide +kernel
theorem qw_KU : ∀ t, t < 6 → ∀ p, p < 4 → qw_us t p < 64 ∧ qw_tb t p < 2 ^ 64 ∧ qw_vr (qw_tb t p) 6 = qw_us t p := by decide +kernel
theorem qw_KF : ∀ t, t < 6 → ∀ p, p < 4 → 1 ≤ p → qw_tr (qw_tb t p) 6 / 2 ^ qw_us t p % 2 = if p = 1 then 1 else 0 := by decide +kernel
theorem qw_KN : ∀ t, t < 6 → ∀ p, p < 4 → 1 ≤ p → qw_cn (fun c => Nat.beq (c &&& qw_us t p) 0) 64 = qw_wd p := by decide +kernel
theorem qw_KI : ∀ t, t < 6 → ∀ p, p < 4 → 1 ≤ p → qw_p1 t 0 < 64 ∧ 1 ≤ qw_p1 t 0 ∧ qw_sz (qw_p1 t 0) 6 = 1 ∧ qw_p1 t 0 &&& (63 ^^^ qw_us t p) = 0 := by decide +kernel
theorem qw_KT : ∀ t, t < 6 → ∀ i, i < 3 → qw_p1 t i ||| qw_p2 t i < 64 ∧ qw_on (qw_tb t (i + 1)) = (if i = 0 then 16 else if i = 1 then 24 else 28) ∧ qw_pl t (2 * i) < 6 ∧ qw_pl t (2 * i + 1) < 6 := by decide +kernel
/-- derivatives of t0 are affine -/
theorem qw_KD : ∀ t, t < 6 → ∀ p, p < 4 → ∀ a, a < 64 → qw_ix (qw_mv (qw_tb t p) a 6 ^^^ qw_tb t p) < 128 ∧ qw_af (qw_ix (qw_mv (qw_tb t p) a 6 ^^^ qw_tb t p)) = qw_mv (qw_tb t p) a 6 ^^^ qw_tb t p := by decide +kernel
theorem qw_KL : ∀ k, k < 128 → ∀ b, b < 64 → qw_af k ^^^ qw_ln b 6 = qw_af (k ^^^ b) := by decide +kernel
theorem qw_KM : ∀ k, k < 128 → qw_af k ^^^ 18446744073709551615 = qw_af (k ^^^ 64) := by decide +kernel
theorem qw_KR : ∀ b, b < 64 → qw_rd (qw_ln b 6) 6 = b := by decide +kernel
/-- the last table -/
theorem qw_KP : ∀ i, i < 6 → qw_pt i < 2 ^ 64 ∧ qw_pt i / 2 ^ (2 ^ i) % 2 = 0 := by decide +kernel
theorem qw_KZ : qw_on (qw_pt 6) = 6 ∧ qw_tr (qw_pt 6) 6 / 2 ^ 63 % 2 = 0 ∧ qw_vr (qw_pt 6) 6 = 63 ∧ (qw_S (qw_pt 6)).getD 0 0 = 52 ∧ (qw_S (qw_pt 6)).getD 1 0 = -8 ∧ qw_pt 6 < 2 ^ 64 := by decide +kernel
/-- points by size -/
theorem qw_KS : ∀ u, u < 64 → (qw_m3.testBit u = false → qw_sz u 6 ≤ 2) ∧ (qw_m2.testBit u = true → qw_sz u 6 = 2) ∧ (qw_m2.testBit u = false → qw_m3.testBit u = false → qw_sz u 6 ≤ 1) := by decide +kernel
end
section
/-! ===== rows of BITS.to-paste: the family wb_ ===== -/
theorem wb_tb (n : Nat) : (lN n).toBitVec = BitVec.ofNat 64 n := rfl
theorem wb_inj {a b : Int64} (h : a.toBitVec = b.toBitVec) : a = b := Int64.toBitVec_inj.mp h
theorem wb_tn {n : Nat} (h : n < 2 ^ 64) : (lN n).toBitVec.toNat = n := by rw [wb_tb, BitVec.toNat_ofNat, Nat.mod_eq_of_lt h]
theorem wb_of (x : Int64) : ∃ n, n < 2 ^ 64 ∧ x = lN n := ⟨x.toBitVec.toNat, x.toBitVec.isLt, wb_inj (by rw [wb_tb]; simp)⟩
theorem wb_of32 (x : Int32) : ∃ n, n < 2 ^ 32 ∧ x = nI n := ⟨x.toBitVec.toNat, x.toBitVec.isLt, Int32.toBitVec_inj.mp (by show _ = BitVec.ofNat 32 _; simp)⟩
theorem wb_c : ∀ k, k < 64 → ((nI k).toInt64 &&& 63) = lN k := by decide +kernel
theorem wb_cu : ∀ k, k < 64 → ((nI k).toInt64.toUInt64 &&& Int64.toUInt64 63) = UInt64.ofNat k := by decide +kernel
theorem wb_sm : ∀ k, k < 64 → (BitVec.ofNat 64 k).smod 64 = BitVec.ofNat 64 k := by decide +kernel
theorem wb_pw {a b : Nat} (h : a ≤ b) : 2 ^ b = 2 ^ a * 2 ^ (b - a) := by rw [← Nat.pow_add]; congr 1; omega
theorem wb_lt2 {a b : Nat} (h : a < b) : 2 ^ a < 2 ^ b := Nat.pow_lt_pow_right (by decide) h
theorem wb_mod (n : Nat) : lN n = lN (n % 2 ^ 64) := wb_inj (by rw [wb_tb, wb_tb]; apply BitVec.eq_of_toNat_eq; rw [BitVec.toNat_ofNat, BitVec.toNat_ofNat, Nat.mod_mod])
theorem wb_shr {n k : Nat} (hn : n < 2 ^ 64) (hk : k < 64) : ((lN n).toUInt64 >>> ((nI k).toInt64.toUInt64 &&& Int64.toUInt64 63)).toInt64 = lN (n / 2 ^ k) := by
  rw [wb_cu k hk]
  apply wb_inj
  apply BitVec.eq_of_toNat_eq
  show ((lN n).toUInt64 >>> UInt64.ofNat k).toNat = (BitVec.ofNat 64 _).toNat
  have h1 : (UInt64.ofNat k).toNat = k := by
    show (BitVec.ofNat 64 k).toNat = k
    rw [BitVec.toNat_ofNat, Nat.mod_eq_of_lt (by omega)]
  have h2 : (lN n).toUInt64.toNat = n := wb_tn hn
  rw [UInt64.toNat_shiftRight, h1, h2, Nat.mod_eq_of_lt hk, Nat.shiftRight_eq_div_pow, BitVec.toNat_ofNat, Nat.mod_eq_of_lt (Nat.lt_of_le_of_lt (Nat.div_le_self _ _) hn)]
theorem wb_shl (n : Nat) {k : Nat} (hk : k < 64) : lN n <<< ((nI k).toInt64 &&& 63) = lN (n * 2 ^ k) := by
  rw [wb_c k hk]
  apply wb_inj
  rw [Int64.toBitVec_shiftLeft, wb_tb, wb_tb, wb_tb, wb_sm k hk]
  apply BitVec.eq_of_toNat_eq
  rw [BitVec.shiftLeft_eq', BitVec.toNat_shiftLeft, BitVec.toNat_ofNat, BitVec.toNat_ofNat, BitVec.toNat_ofNat, Nat.mod_eq_of_lt (show k < 2 ^ 64 by omega), Nat.shiftLeft_eq, Nat.mul_mod, Nat.mod_mod, ← Nat.mul_mod]
theorem wb_and {a b : Nat} (ha : a < 2 ^ 64) (hb : b < 2 ^ 64) : lN a &&& lN b = lN (a &&& b) := by
  apply wb_inj
  rw [Int64.toBitVec_and, wb_tb, wb_tb, wb_tb]
  apply BitVec.eq_of_toNat_eq
  rw [BitVec.toNat_and, BitVec.toNat_ofNat, BitVec.toNat_ofNat, BitVec.toNat_ofNat, Nat.mod_eq_of_lt ha, Nat.mod_eq_of_lt hb, Nat.mod_eq_of_lt (Nat.and_lt_two_pow _ hb)]
theorem wb_or {a b : Nat} (ha : a < 2 ^ 64) (hb : b < 2 ^ 64) : lN a ||| lN b = lN (a ||| b) := by
  apply wb_inj
  rw [Int64.toBitVec_or, wb_tb, wb_tb, wb_tb]
  apply BitVec.eq_of_toNat_eq
  rw [BitVec.toNat_or, BitVec.toNat_ofNat, BitVec.toNat_ofNat, BitVec.toNat_ofNat, Nat.mod_eq_of_lt ha, Nat.mod_eq_of_lt hb, Nat.mod_eq_of_lt (Nat.or_lt_two_pow ha hb)]
theorem wb_mask {n k : Nat} (hn : n < 2 ^ 64) (hk : k < 64) : lN n &&& lN (2 ^ k - 1) = lN (n % 2 ^ k) := by
  rw [wb_and hn (by have := wb_lt2 hk; omega), Nat.and_two_pow_sub_one_eq_mod]
theorem wb_a1 {n : Nat} (hn : n < 2 ^ 64) : lN n &&& 1 = lN (n % 2) := wb_mask (k := 1) hn (by decide)
theorem wb_bit {n k : Nat} (hn : n < 2 ^ 64) (hk : k < 64) : ((lN n).toUInt64 >>> ((nI k).toInt64.toUInt64 &&& Int64.toUInt64 63)).toInt64 &&& 1 = lN (n / 2 ^ k % 2) := by
  rw [wb_shr hn hk, wb_a1 (Nat.lt_of_le_of_lt (Nat.div_le_self _ _) hn)]
/-! ===== mine ===== -/
theorem qw_lx (a b : Nat) : lN a ^^^ lN b = lN (a ^^^ b) := by
  apply wb_inj
  rw [Int64.toBitVec_xor, wb_tb, wb_tb, wb_tb]
  apply BitVec.eq_of_getLsbD_eq
  intro i hi
  simp [BitVec.getLsbD_ofNat, Nat.testBit_xor, hi]
theorem qw_lj {a b : Nat} (ha : a < 2 ^ 64) (hb : b < 2 ^ 64) : lN a = lN b ↔ a = b := by
  constructor
  · intro h
    rw [← wb_tn ha, ← wb_tn hb, h]
  · intro h
    rw [h]
theorem qw_no (a b : Nat) : nI a ||| nI b = nI (a ||| b) := by
  apply Int32.toBitVec_inj.mp
  rw [Int32.toBitVec_or]
  show BitVec.ofNat 32 a ||| BitVec.ofNat 32 b = BitVec.ofNat 32 (a ||| b)
  apply BitVec.eq_of_getLsbD_eq
  intro i hi
  simp [BitVec.getLsbD_ofNat, Nat.testBit_or, hi]
theorem qw_na (a b : Nat) : nI a &&& nI b = nI (a &&& b) := by
  apply Int32.toBitVec_inj.mp
  rw [Int32.toBitVec_and]
  show BitVec.ofNat 32 a &&& BitVec.ofNat 32 b = BitVec.ofNat 32 (a &&& b)
  apply BitVec.eq_of_getLsbD_eq
  intro i hi
  simp [BitVec.getLsbD_ofNat, Nat.testBit_and, hi]
theorem qw_nx (a b : Nat) : nI a ^^^ nI b = nI (a ^^^ b) := by
  apply Int32.toBitVec_inj.mp
  rw [Int32.toBitVec_xor]
  show BitVec.ofNat 32 a ^^^ BitVec.ofNat 32 b = BitVec.ofNat 32 (a ^^^ b)
  apply BitVec.eq_of_getLsbD_eq
  intro i hi
  simp [BitVec.getLsbD_ofNat, Nat.testBit_xor, hi]
def qw_low : Nat → Int64 := vp_updL (vp_updL (vp_updL (vp_updL (vp_updL (vp_updL (fun _ => 0) 0 6148914691236517205) 1 3689348814741910323) 2 1085102592571150095) 3 71777214294589695) 4 281470681808895) 5 4294967295
theorem qw_low_e : ∀ i, i < 6 → qw_low i = lN (qw_lw i) := by decide +kernel
theorem qw_lw_lt : ∀ i, i < 6 → qw_lw i < 2 ^ 64 ∧ qw_lw i * 2 ^ (2 ^ i) < 2 ^ 64 := by decide +kernel
theorem qw_sh1 : ∀ i, i < 6 → (1 : Int32) <<< (nI i &&& 31) = nI (2 ^ i) := by decide +kernel
theorem qw_shd : ∀ i, i < 6 → ∀ d, d < 2 → nI d <<< (nI i &&& 31) = nI (d * 2 ^ i) := by decide +kernel
theorem qw_p64 : ∀ i, i < 6 → 2 ^ i < 64 := by decide
theorem qw_bit : ∀ i, i < 6 → ∀ x, x < 64 → (nI x >>> (nI i &&& 31)) &&& 1 = nI (x / 2 ^ i % 2) := by decide +kernel
theorem qw_dl {a b c : Nat} (h : a < c) : a / b < c := Nat.lt_of_le_of_lt (Nat.div_le_self _ _) h
theorem qw_ml {a b : Nat} : a / b % 2 < 2 ^ 31 := Nat.lt_of_lt_of_le (Nat.mod_lt _ (by decide)) (by decide)
theorem qw_two (u : Nat) (hu : u < 64) : (1 : Int64) <<< ((nI u).toInt64 &&& 63) = lN (2 ^ u) := by
  rw [show (1 : Int64) = lN 1 from rfl, wb_shl 1 hu, Nat.one_mul]
theorem qw_tlt {u : Nat} (hu : u < 64) : 2 ^ u < 2 ^ 64 := Nat.pow_lt_pow_right (by decide) hu
theorem qw_neg1 : (-1 : Int64) = lN 18446744073709551615 := by decide +kernel
/-! ===== small methods ===== -/
theorem qw_bad {post : Int32 → Prop} {a1 a2 : Nat → Int64} {a3 : Nat → Int32} {p : Int32} (t : Nat) (ht : t < 4) (H : post 0) (hp : p = nI t := by rfl) : wpX_bad post (a1, a2, a3) p :=
  pk_lt t 0 (fun z => absurd z (by omega)) (fun _ => pk_lt t 4 (fun _ => H) (fun z => absurd z (by omega)) hp) hp
theorem qw_pnt {post : Int32 → Prop} {a1 a2 : Nat → Int64} {a3 : Nat → Int32} {p : Int32} (t : Nat) (ht : t < 64) (H : post 0) (hp : p = nI t := by rfl) : wpX_badPoint post (a1, a2, a3) p :=
  pk_lt t 0 (fun z => absurd z (by omega)) (fun _ => pk_lt t 64 (fun _ => H) (fun z => absurd z (by omega)) hp) hp
theorem qw_bad1 {post : Int32 → Prop} {a1 a2 : Nat → Int64} {a3 : Nat → Int32} (H : post 1) : wpX_bad post (a1, a2, a3) 4 :=
  pk_lt 4 0 (fun z => absurd z (by omega)) (fun _ => pk_lt 4 4 (fun z => absurd z (by omega)) (fun _ => H))
theorem qw_pnt1 {post : Int32 → Prop} {a1 a2 : Nat → Int64} {a3 : Nat → Int32} (H : post 1) : wpX_badPoint post (a1, a2, a3) 64 :=
  pk_lt 64 0 (fun z => absurd z (by omega)) (fun _ => pk_lt 64 64 (fun z => absurd z (by omega)) (fun _ => H))
theorem qw_digit {post : Int32 → Prop} {a1 a2 : Nat → Int64} {a3 : Nat → Int32} {v : Nat} {q : Int32} (x : Nat) (hx : x < 64) (hv : v < 2 ^ 64) (H : post (nI (v / 2 ^ x % 2))) (hq : q = nI x := by rfl) : wpX_digit post (a1, a2, a3) (lN v) q := by
  subst hq
  unfold wpX_digit
  dsimp only
  rw [wb_bit hv hx, lN_i]
  exact H
/-! ===== transformed ===== -/
theorem qw_tr1_lt {v i : Nat} (hi : i < 6) (hv : v < 2 ^ 64) : qw_tr1 v i < 2 ^ 64 :=
  Nat.xor_lt_two_pow hv (Nat.lt_of_le_of_lt (Nat.mul_le_mul_right _ Nat.and_le_right) (qw_lw_lt i hi).2)
theorem qw_tr_lt {v : Nat} (hv : v < 2 ^ 64) : ∀ i, i ≤ 6 → qw_tr v i < 2 ^ 64
  | 0, _ => hv
  | i + 1, h => qw_tr1_lt (by omega) (qw_tr_lt hv i (by omega))
theorem qw_tr_e {v i : Nat} (hi : i < 6) (hv : v < 2 ^ 64) : lN v ^^^ ((lN v &&& (qw_low (nI i).toNatClampNeg)) <<< (((1 : Int32) <<< (nI i &&& 31)).toInt64 &&& 63)) = lN (qw_tr1 v i) := by
  rw [nI_clamp (by omega), qw_low_e i hi, wb_and hv (qw_lw_lt i hi).1, qw_sh1 i hi, wb_shl _ (qw_p64 i hi), qw_lx]
  rfl
theorem qw_transformed {post : Int64 → Prop} {a1 : Nat → Int64} {a3 : Nat → Int32} {v : Nat} (hv : v < 2 ^ 64) (H : post (lN (qw_tr v 6))) : wpX_transformed post (a1, qw_low, a3) (lN v) :=
  pk_loop (fun n i s => wX_transformed_5 post a1 qw_low a3 n s (nI i)) (fun i s => s = lN (qw_tr v i)) 6 0 (lN v) (by omega) rfl
    (fun n s h => pk_le 6 6 (fun _ => by rw [h]; exact H) (fun z => absurd z (by omega)))
    (fun n i s hi h hw => by
      subst h
      exact pk_le 6 i (fun z => absurd z (by omega)) (fun _ => ⟨pk_in i 6 hi, nm_r (qw_tr_e hi (qw_tr_lt hv i (by omega))) (nm_r (nI_1 i) (hw _ rfl))⟩))
/-! ===== moved ===== -/
theorem qw_mv1_lt {v i : Nat} (hi : i < 6) : qw_mv1 v i < 2 ^ 64 :=
  Nat.or_lt_two_pow (Nat.lt_of_le_of_lt (Nat.mul_le_mul_right _ Nat.and_le_right) (qw_lw_lt i hi).2) (Nat.and_lt_two_pow _ (qw_lw_lt i hi).1)
theorem qw_mv_lt {v : Nat} (a : Nat) (hv : v < 2 ^ 64) : ∀ i, i ≤ 6 → qw_mv v a i < 2 ^ 64
  | 0, _ => hv
  | i + 1, h => by
    show (if a / 2 ^ i % 2 = 1 then qw_mv1 (qw_mv v a i) i else qw_mv v a i) < 2 ^ 64
    split
    · exact qw_mv1_lt (by omega)
    · exact qw_mv_lt a hv i (by omega)
theorem qw_mv_e {v i : Nat} (hi : i < 6) (hv : v < 2 ^ 64) : ((lN v &&& (qw_low (nI i).toNatClampNeg)) <<< (((1 : Int32) <<< (nI i &&& 31)).toInt64 &&& 63)) ||| ((((lN v).toUInt64 >>> (((1 : Int32) <<< (nI i &&& 31)).toInt64.toUInt64 &&& Int64.toUInt64 63)).toInt64) &&& (qw_low (nI i).toNatClampNeg)) = lN (qw_mv1 v i) := by
  rw [nI_clamp (by omega), qw_low_e i hi, wb_and hv (qw_lw_lt i hi).1, qw_sh1 i hi, wb_shl _ (qw_p64 i hi), wb_shr hv (qw_p64 i hi), wb_and (qw_dl hv) (qw_lw_lt i hi).1,
    wb_or (Nat.lt_of_le_of_lt (Nat.mul_le_mul_right _ Nat.and_le_right) (qw_lw_lt i hi).2) (Nat.and_lt_two_pow _ (qw_lw_lt i hi).1)]
  rfl
theorem qw_moved {post : Int64 → Prop} {a1 : Nat → Int64} {a3 : Nat → Int32} {v : Nat} {q : Int32} (a : Nat) (ha : a < 64) (hv : v < 2 ^ 64) (H : post (lN (qw_mv v a 6))) (hq : q = nI a := by rfl) : wpX_moved post (a1, qw_low, a3) (lN v) q := by
  subst hq
  exact pk_loop (fun n i s => wX_moved_6 post (nI a) a1 qw_low a3 n s (nI i)) (fun i s => s = lN (qw_mv v a i)) 6 0 (lN v) (by omega) rfl
    (fun n s h => pk_le 6 6 (fun _ => by rw [h]; exact H) (fun z => absurd z (by omega)))
    (fun n i s hi h hw => by
      subst h
      exact pk_le 6 i (fun z => absurd z (by omega)) (fun _ => pk_eq (a / 2 ^ i % 2) 1
        (fun z => nm_e ⟨pk_in i 6 hi, pk_in i 6 hi, nm_r (qw_mv_e hi (qw_mv_lt a hv i (by omega))) (nm_r (nI_1 i) (hw _ (by show _ = lN (if a / 2 ^ i % 2 = 1 then qw_mv1 (qw_mv v a i) i else qw_mv v a i); rw [if_pos z])))⟩)
        (fun z => nm_r (nI_1 i) (hw _ (by show _ = lN (if a / 2 ^ i % 2 = 1 then qw_mv1 (qw_mv v a i) i else qw_mv v a i); rw [if_neg z])))
        (qw_bit i hi a ha) (by rfl) qw_ml))
/-! ===== linear ===== -/
theorem qw_ln_lt (b : Nat) : ∀ i, i ≤ 6 → qw_ln b i < 2 ^ 64
  | 0, _ => by show 0 < 2 ^ 64; decide
  | i + 1, h => by
    show (if b / 2 ^ i % 2 = 1 then qw_ln b i ^^^ (qw_lw i ^^^ 18446744073709551615) else qw_ln b i) < 2 ^ 64
    split
    · exact Nat.xor_lt_two_pow (qw_ln_lt b i (by omega)) (Nat.xor_lt_two_pow (qw_lw_lt i (by omega)).1 (by decide))
    · exact qw_ln_lt b i (by omega)
theorem qw_linear {post : Int64 → Prop} {a1 : Nat → Int64} {a3 : Nat → Int32} {q : Int32} (b : Nat) (hb : b < 64) (H : post (lN (qw_ln b 6))) (hq : q = nI b := by rfl) : wpX_linear post (a1, qw_low, a3) q := by
  subst hq
  exact pk_loop (fun n i s => wX_linear_5 post (nI b) a1 qw_low a3 n s (nI i)) (fun i s => s = lN (qw_ln b i)) 6 0 0 (by omega) rfl
    (fun n s h => pk_le 6 6 (fun _ => by rw [h]; exact H) (fun z => absurd z (by omega)))
    (fun n i s hi h hw => by
      subst h
      exact pk_le 6 i (fun z => absurd z (by omega)) (fun _ => pk_eq (b / 2 ^ i % 2) 1
        (fun z => ⟨pk_in i 6 hi, nm_r (e' := lN (qw_ln b (i + 1))) (by
          show _ = lN (if b / 2 ^ i % 2 = 1 then qw_ln b i ^^^ (qw_lw i ^^^ 18446744073709551615) else qw_ln b i)
          rw [if_pos z, nI_clamp (by omega), qw_low_e i hi, qw_neg1, qw_lx, qw_lx]) (nm_r (nI_1 i) (hw _ rfl))⟩)
        (fun z => nm_r (nI_1 i) (hw _ (by show _ = lN (if b / 2 ^ i % 2 = 1 then qw_ln b i ^^^ (qw_lw i ^^^ 18446744073709551615) else qw_ln b i); rw [if_neg z])))
        (qw_bit i hi b hb) (by rfl) qw_ml))
/-! ===== onesOf ===== -/
theorem qw_o1_le (v : Nat) : (v / 2) &&& 6148914691236517205 ≤ v := Nat.le_trans Nat.and_le_left (Nat.div_le_self _ _)
theorem qw_o1_lt {v : Nat} (hv : v < 2 ^ 64) : qw_o1 v < 2 ^ 64 := Nat.lt_of_le_of_lt (Nat.sub_le _ _) hv
theorem qw_o2_lt (a : Nat) : qw_o2 a < 2 ^ 64 :=
  Nat.lt_of_le_of_lt (Nat.add_le_add Nat.and_le_right Nat.and_le_right) (by decide)
theorem qw_on_lt (v : Nat) : qw_on v < 256 := by
  unfold qw_on
  omega
theorem qw_onesOf {post : Int32 → Prop} {a1 : Nat → Int64} {a3 : Nat → Int32} {v : Nat} (hv : v < 2 ^ 64) (H : post (nI (qw_on v))) : wpX_onesOf post (a1, qw_low, a3) (lN v) := by
  have e1 : lN v - ((((lN v).toUInt64 >>> ((1 : Int32).toInt64.toUInt64 &&& Int64.toUInt64 63)).toInt64) &&& (qw_low 0)) = lN (qw_o1 v) := by
    rw [show (1 : Int32) = nI 1 from rfl, wb_shr hv (by decide), qw_low_e 0 (by decide), wb_and (qw_dl hv) (by decide)]
    exact lN_sub (qw_o1_le v)
  have e2 : ∀ a, a < 2 ^ 64 → (lN a &&& (qw_low 1)) + ((((lN a).toUInt64 >>> ((2 : Int32).toInt64.toUInt64 &&& Int64.toUInt64 63)).toInt64) &&& (qw_low 1)) = lN (qw_o2 a) := by
    intro a ha
    rw [show (2 : Int32) = nI 2 from rfl, wb_shr ha (by decide), qw_low_e 1 (by decide), wb_and (qw_dl ha) (by decide), wb_and ha (by decide), lN_add]
    rfl
  have e3 : ∀ b, b < 2 ^ 63 → (lN b + (((lN b).toUInt64 >>> ((4 : Int32).toInt64.toUInt64 &&& Int64.toUInt64 63)).toInt64)) &&& (qw_low 2) = lN (qw_o3 b) := by
    intro b hb
    rw [show (4 : Int32) = nI 4 from rfl, wb_shr (by omega) (by decide), qw_low_e 2 (by decide), lN_add, wb_and (by have := @Nat.div_le_self b (2 ^ 4); omega) (by decide)]
    rfl
  have e4 : ∀ c, (((lN c * 72340172838076673).toUInt64 >>> ((56 : Int32).toInt64.toUInt64 &&& Int64.toUInt64 63)).toInt64).toInt32 = nI ((c * 72340172838076673) % 18446744073709551616 / 72057594037927936) := by
    intro c
    rw [show (56 : Int32) = nI 56 from rfl, show (72340172838076673 : Int64) = lN 72340172838076673 from rfl, lN_mul, wb_mod, wb_shr (Nat.mod_lt _ (by decide)) (by decide), lN_i]
  have h2 : qw_o2 (qw_o1 v) < 2 ^ 63 := Nat.lt_of_le_of_lt (Nat.add_le_add Nat.and_le_right Nat.and_le_right) (by decide)
  unfold wpX_onesOf
  dsimp only
  refine nm_r e1 (nm_r (e2 _ (qw_o1_lt hv)) (nm_r (e3 _ h2) ?_))
  rw [e4]
  exact H
/-! ===== sizeOf ===== -/
theorem qw_sz6 : ∀ u, u < 64 → qw_sz u 6 ≤ 6 ∧ (1 ≤ u → 1 ≤ qw_sz u 6) := by decide +kernel
theorem qw_sizeOf {post : Int32 → Prop} {a1 a2 : Nat → Int64} {a3 : Nat → Int32} {q : Int32} (u : Nat) (hu : u < 64) (H : post (nI (qw_sz u 6))) (hq : q = nI u := by rfl) : wpX_sizeOf post (a1, a2, a3) q := by
  subst hq
  exact pk_loop (fun n i s => wX_sizeOf_4 post (nI u) a1 a2 a3 n s (nI i)) (fun i s => s = nI (qw_sz u i)) 6 0 0 (by omega) rfl
    (fun n s h => pk_le 6 6 (fun _ => by rw [h]; exact H) (fun z => absurd z (by omega)))
    (fun n i s hi h hw => by
      subst h
      exact pk_le 6 i (fun z => absurd z (by omega)) (fun _ => nm_r (e' := nI (qw_sz u (i + 1))) (by rw [qw_bit i hi u hu, nI_add]; rfl) (nm_r (nI_1 i) (hw _ rfl))))
end
section
/-! ===== lists and layers ===== -/
theorem qw_zw_e (f : Int → Int → Int) : ∀ (A B r : List Int), qw_zw f A B r = List.zipWith f A B ++ r
  | [], _, _ => rfl
  | _ :: _, [], _ => rfl
  | a :: A, b :: B, r => by
    show f a b :: qw_zw f A B r = _
    rw [qw_zw_e f A B r]
    rfl
theorem qw_bf_e (A B : List Int) : qw_bf A B = List.zipWith Int.add A B ++ List.zipWith Int.sub A B := by
  unfold qw_bf
  rw [qw_zw_e, qw_zw_e, List.append_nil]
theorem qw_W_s (f : Nat → Int) (n o : Nat) : qw_W f (n + 1) o = qw_bf (qw_W f n o) (qw_W f n (o + 2 ^ n)) := rfl
theorem qw_W_len (f : Nat → Int) : ∀ n o, (qw_W f n o).length = 2 ^ n
  | 0, _ => rfl
  | n + 1, o => by
    rw [qw_W_s, qw_bf_e, List.length_append, List.length_zipWith, List.length_zipWith, qw_W_len f n o, qw_W_len f n (o + 2 ^ n), Nat.min_self, Nat.pow_succ]
    omega
theorem qw_W_T (f : Nat → Int) : ∀ n q j, j < 2 ^ n → (qw_W f n (2 ^ n * q))[j]? = some (qw_T f n (2 ^ n * q + j))
  | 0, q, j, h => by
    have hj : j = 0 := by
      rw [Nat.pow_zero] at h
      omega
    subst hj
    rfl
  | n + 1, q, j, h => by
    have e1 : 2 ^ (n + 1) * q = 2 ^ n * (2 * q) := by rw [Nat.pow_succ, Nat.mul_assoc]
    have e2 : 2 ^ n * (2 * q) + 2 ^ n = 2 ^ n * (2 * q + 1) := by rw [Nat.mul_add, Nat.mul_one]
    have hp : 0 < 2 ^ n := Nat.two_pow_pos n
    have l1 := qw_W_len f n (2 ^ n * (2 * q))
    have l2 := qw_W_len f n (2 ^ n * (2 * q + 1))
    have l3 : (List.zipWith Int.add (qw_W f n (2 ^ n * (2 * q))) (qw_W f n (2 ^ n * (2 * q + 1)))).length = 2 ^ n := by
      rw [List.length_zipWith, l1, l2, Nat.min_self]
    rw [qw_W_s, e1, e2, qw_bf_e]
    by_cases hj : j < 2 ^ n
    · have d : (2 ^ n * (2 * q) + j) / 2 ^ n % 2 = 0 := by
        rw [Nat.mul_add_div hp, Nat.div_eq_of_lt hj]
        omega
      have e3 : 2 ^ n * (2 * q + 1) + j = 2 ^ n * (2 * q) + j + 2 ^ n := by
        rw [← e2]
        omega
      rw [List.getElem?_append_left (by rw [l3]; exact hj), List.getElem?_zipWith, qw_W_T f n (2 * q) j hj, qw_W_T f n (2 * q + 1) j hj, e3]
      show some _ = some (qw_L n (qw_T f n) (2 ^ n * (2 * q) + j))
      unfold qw_L
      rw [if_neg (by omega)]
      rfl
    · obtain ⟨i, rfl⟩ : ∃ i, j = 2 ^ n + i := ⟨j - 2 ^ n, by omega⟩
      have hi : i < 2 ^ n := by
        rw [Nat.pow_succ] at h
        omega
      have d : (2 ^ n * (2 * q) + (2 ^ n + i)) / 2 ^ n % 2 = 1 := by
        rw [← Nat.add_assoc, e2, Nat.mul_add_div hp, Nat.div_eq_of_lt hi]
        omega
      have e3 : 2 ^ n * (2 * q) + (2 ^ n + i) - 2 ^ n = 2 ^ n * (2 * q) + i := by omega
      have e4 : 2 ^ n * (2 * q + 1) + i = 2 ^ n * (2 * q) + (2 ^ n + i) := by
        rw [← e2]
        omega
      rw [List.getElem?_append_right (by rw [l3]; omega), l3, Nat.add_sub_cancel_left, List.getElem?_zipWith, qw_W_T f n (2 * q) i hi, qw_W_T f n (2 * q + 1) i hi, e4]
      show some _ = some (qw_L n (qw_T f n) (2 ^ n * (2 * q) + (2 ^ n + i)))
      unfold qw_L
      rw [if_pos d, e3]
      rfl
theorem qw_WD (f : Nat → Int) {j : Nat} (hj : j < 64) : (qw_W f 6 0).getD j 0 = qw_T f 6 j := by
  have h := qw_W_T f 6 0 j hj
  rw [Nat.mul_zero, Nat.zero_add] at h
  rw [List.getD_eq_getElem?_getD, h]
  rfl
theorem qw_S_len (v : Nat) : (qw_S v).length = 64 := qw_W_len _ 6 0
theorem qw_C_len (v : Nat) : (qw_C v).length = 64 := qw_W_len _ 6 0
theorem qw_gD {l : List Int} {j : Nat} (hj : j < l.length) : l.getD j 0 = l[j] := by
  rw [List.getD_eq_getElem?_getD, List.getElem?_eq_getElem hj]
  rfl
theorem qw_all {l : List Int} {p : Int → Bool} (h : l.all p = true) {j : Nat} (hj : j < l.length) : p (l.getD j 0) = true := by
  rw [qw_gD hj]
  exact List.all_eq_true.mp h _ (List.getElem_mem hj)
theorem qw_mx_le {h : Nat} {l : List Int} (hm : qw_mx h l = true) {j : Nat} (hj : j < l.length) : (l.getD j 0).natAbs ≤ h := by
  unfold qw_mx at hm
  rw [Bool.and_eq_true] at hm
  exact Nat.le_of_ble_eq_true (qw_all hm.1 hj)
theorem qw_mx_ex {h : Nat} {l : List Int} (hm : qw_mx h l = true) : ∃ j, j < l.length ∧ (l.getD j 0).natAbs = h := by
  unfold qw_mx at hm
  rw [Bool.and_eq_true] at hm
  obtain ⟨z, hz, e⟩ := List.any_eq_true.mp hm.2
  obtain ⟨j, hj, ej⟩ := List.getElem_of_mem hz
  refine ⟨j, hj, ?_⟩
  rw [qw_gD hj, ej]
  exact Nat.eq_of_beq_eq_true e
/-! ===== magnitude ===== -/
def qw_mg (p : Int32) : Int32 := if 0 ≤ p then p else -p
theorem qw_mag {post : Int32 → Prop} {a1 a2 : Nat → Int64} {a3 : Nat → Int32} {p : Int32} (H : post (qw_mg p)) : wpX_magnitude post (a1, a2, a3) p := by
  unfold qw_mg at H
  exact ⟨fun h => by rw [if_pos h] at H; exact H, fun h => by rw [if_neg h] at H; exact H⟩
theorem qw_mgI (z : Int) (h : z.natAbs < 2 ^ 31) : qw_mg (Int32.ofInt z) = nI z.natAbs := by
  unfold qw_mg
  obtain ⟨n, e | e⟩ := Int.eq_nat_or_neg z
  · subst e
    rw [Int.natAbs_natCast] at h
    have e1 : Int32.ofInt (n : Int) = nI n := Int32.ofInt_eq_ofNat
    rw [e1, if_pos (nI_pos' h), Int.natAbs_natCast]
  · subst e
    rw [Int.natAbs_neg, Int.natAbs_natCast] at h
    have e1 : Int32.ofInt (n : Int) = nI n := Int32.ofInt_eq_ofNat
    rw [Int32.ofInt_neg, e1, Int.natAbs_neg, Int.natAbs_natCast]
    by_cases h0 : n = 0
    · subst h0
      decide
    · rw [if_neg, Int32.neg_neg]
      rw [Int32.le_iff_toInt_le, sb_negT h]
      show ¬ (0 : Int) ≤ -(n : Int)
      omega
/-! ===== spread ===== -/
def qw_lp (i j : Nat) : Nat := if j / 2 ^ i % 2 = 1 then j - 2 ^ i else j
theorem qw_lpf : ∀ i, i < 6 → ∀ j, j < 64 → (qw_lp i j) / 2 ^ i % 2 = 0 ∧ qw_lp i j < 64 ∧ (j = qw_lp i j ∨ j = qw_lp i j + 2 ^ i) := by decide +kernel
theorem qw_lpx : ∀ i, i < 6 → ∀ x, x < 64 → x / 2 ^ i % 2 = 0 → x + 2 ^ i < 64 ∧ (x + 2 ^ i) / 2 ^ i % 2 = 1 ∧ qw_lp i x = x ∧ qw_lp i (x + 2 ^ i) = x := by decide +kernel
theorem qw_sp14 {post : St2 → Prop} {J2 : Int32 → (Nat → Int64) → (Nat → Int64) → (Nat → Int32) → Prop} {i : Nat} (hi : i < 6) {a1 a2 : Nat → Int64} {a3 : Nat → Int32} {G : Nat → Int}
    (h : ∀ j, j < 64 → a3 j = Int32.ofInt (G j)) (H : ∀ a, (∀ j, j < 64 → a j = Int32.ofInt (qw_L i G j)) → J2 (nI (i + 1)) a1 a2 a) : ∃ n, wX_spread_14 post J2 (nI i) (nI (2 ^ i)) n 0 a1 a2 a3 := by
  have hp := qw_p64 i hi
  refine pk_loop (fun n x s => wX_spread_14 post J2 (nI i) (nI (2 ^ i)) n (nI x) a1 a2 s) (fun x s => ∀ j, j < 64 → s j = Int32.ofInt (if qw_lp i j < x then qw_L i G j else G j)) 64 0 a3 (by omega) (fun j hj => ?_) (fun n s hs => ?_) (fun n x s hx hs hw => ?_)
  · rw [if_neg (by omega)]
    exact h j hj
  · refine pk_le 64 64 (fun _ => nm_r (nI_1 i) (H s (fun j hj => ?_))) (fun z => absurd z (by omega))
    rw [hs j hj, if_pos (qw_lpf i hi j hj).2.1]
  · refine pk_le 64 x (fun z => absurd z (by omega)) (fun _ => pk_eq (x / 2 ^ i % 2) 0 (fun z => ?_) (fun z => nm_r (nI_1 x) (hw s (fun j hj => ?_))) (qw_bit i hi x hx) (by rfl) qw_ml)
    · obtain ⟨g1, g2, g3, g4⟩ := qw_lpx i hi x hx z
      have c1 : (nI x).toNatClampNeg = x := nI_clamp (by omega)
      have c2 : (nI x + nI (2 ^ i)).toNatClampNeg = x + 2 ^ i := by rw [nI_add, nI_clamp (by omega)]
      rw [c1, c2]
      refine ⟨pk_in x 64 hx, nm_r (e' := Int32.ofInt (G x)) (by rw [hs x hx, g3, if_neg (by omega)]) ⟨pk_in (x + 2 ^ i) 64 g1 (nI_add _ _), nm_r (e' := Int32.ofInt (G (x + 2 ^ i))) (by rw [hs _ g1, g4, if_neg (by omega)]) ⟨pk_in x 64 hx, nm_e ⟨pk_in (x + 2 ^ i) 64 g1 (nI_add _ _), nm_e (nm_r (nI_1 x) (hw _ (fun j hj => ?_)))⟩⟩⟩⟩
      by_cases j2 : j = x + 2 ^ i
      · subst j2
        rw [pk_us, g4, if_pos (by omega), ← Int32.ofInt_sub]
        unfold qw_L
        rw [if_pos g2, Nat.add_sub_cancel]
      · rw [pk_un j2]
        by_cases j1 : j = x
        · subst j1
          rw [pk_us, g3, if_pos (by omega), ← Int32.ofInt_add]
          unfold qw_L
          rw [if_neg (by omega)]
        · rw [pk_un j1, hs j hj]
          have q := (qw_lpf i hi j hj).2.2
          by_cases g : qw_lp i j < x
          · rw [if_pos g, if_pos (by omega)]
          · rw [if_neg g, if_neg (by omega)]
    · rw [hs j hj]
      have q := (qw_lpf i hi j hj).1
      have q2 : qw_lp i j ≠ x := fun e => z (by rw [← e]; exact q)
      by_cases g : qw_lp i j < x
      · rw [if_pos g, if_pos (by omega)]
      · rw [if_neg g, if_neg (by omega)]
theorem qw_spread {post : St2 → Prop} {a1 a2 : Nat → Int64} {a3 : Nat → Int32} {G : Nat → Int} (h : ∀ j, j < 64 → a3 j = Int32.ofInt (G j)) (H : ∀ a, (∀ j, j < 64 → a j = Int32.ofInt (qw_T G 6 j)) → post (a1, a2, a)) : wpX_spread post (a1, a2, a3) :=
  pk_loop (fun n i s => wX_spread_2 post n (nI i) a1 a2 s) (fun i s => ∀ j, j < 64 → s j = Int32.ofInt (qw_T G i j)) 6 0 a3 (by omega) h
    (fun n s hs => pk_le 6 6 (fun _ => H s hs) (fun z => absurd z (by omega)))
    (fun n i s hi hs hw => pk_le 6 i (fun z => absurd z (by omega)) (fun _ => nm_r (qw_sh1 i hi) (qw_sp14 hi hs (fun s' hs' => hw s' hs'))))
/-! ===== spectrumOf ===== -/
theorem qw_Fe (v x : Nat) : 1 - 2 * nI (v / 2 ^ x % 2) = Int32.ofInt (qw_F v x) := by
  unfold qw_F
  rcases Nat.mod_two_eq_zero_or_one (v / 2 ^ x) with h | h
  · rw [h]
    decide
  · rw [h]
    decide
theorem qw_spectrumOf {post : St2 → Prop} {a1 a2 : Nat → Int64} {a3 : Nat → Int32} {p : Int32} (t : Nat) {v : Nat} (ht : t < 4) (hv : v < 2 ^ 64) (ha : a1 t = lN v)
    (H : ∀ a, (∀ j, j < 64 → a j = Int32.ofInt ((qw_S v).getD j 0)) → post (a1, a2, a)) (hp : p = nI t := by rfl) : wpX_spectrumOf post (a1, a2, a3) p := by
  subst hp
  refine pk_loop (fun n x s => wX_spectrumOf_2 post (nI t) n (nI x) a1 a2 s) (fun x s => ∀ j, j < x → s j = Int32.ofInt (qw_F v j)) 64 0 a3 (by omega) (fun j h => absurd h (by omega)) (fun n s hs => ?_) (fun n x s hx hs hw => ?_)
  · refine pk_le 64 64 (fun _ => qw_spread hs (fun a h3 => H a (fun j hj => ?_))) (fun z => absurd z (by omega))
    rw [h3 j hj]
    exact congrArg Int32.ofInt (qw_WD (qw_F v) hj).symm
  · refine pk_le 64 x (fun z => absurd z (by omega)) (fun _ => ⟨pk_in t 4 ht, ?_⟩)
    rw [nI_clamp (show t < 2 ^ 31 by omega), ha]
    refine qw_digit x hx hv ⟨pk_in x 64 hx, nm_e (nm_r (nI_1 x) (hw _ (fun j hj => ?_)))⟩
    rw [nI_clamp (show x < 2 ^ 31 by omega)]
    by_cases e : j = x
    · subst e
      rw [pk_us, qw_Fe]
    · rw [pk_un e]
      exact hs j (by omega)
/-! ===== peak ===== -/
theorem qw_peak {post : Int32 → Prop} {a1 a2 : Nat → Int64} {a3 : Nat → Int32}
    (H : ∀ b, b < 64 → (∀ j, j < 64 → qw_mg (a3 j) ≤ qw_mg (a3 b)) → ((∀ j, j < 64 → qw_mg (a3 j) ≤ qw_mg (a3 0)) → b = 0) → post (nI b)) : wpX_peak post (a1, a2, a3) := by
  refine pk_loop (fun n x b => wX_peak_4 post a1 a2 a3 n (nI b) (nI x)) (fun x b => b < 64 ∧ (∀ j, j < x → qw_mg (a3 j) ≤ qw_mg (a3 b)) ∧ ((∀ j, j < 64 → qw_mg (a3 j) ≤ qw_mg (a3 0)) → b = 0)) 64 1 0 (by omega) ⟨by omega, fun j hj => ?_, fun _ => rfl⟩ (fun n b hb => ?_) (fun n x b hx hb hw => ?_)
  · have e : j = 0 := by omega
    subst e
    exact Int32.le_refl _
  · exact pk_le 64 64 (fun _ => H b hb.1 hb.2.1 hb.2.2) (fun z => absurd z (by omega))
  · obtain ⟨h1, h2, h3⟩ := hb
    refine pk_le 64 x (fun z => absurd z (by omega)) (fun _ => ⟨pk_in x 64 hx, qw_mag ⟨pk_in b 64 h1, qw_mag ?_⟩⟩)
    rw [nI_clamp (show x < 2 ^ 31 by omega), nI_clamp (show b < 2 ^ 31 by omega)]
    refine br_c (fun g => nm_r (nI_1 x) (hw b ⟨h1, fun j hj => ?_, h3⟩)) (fun g => nm_r (nI_1 x) (hw x ⟨hx, fun j hj => ?_, fun hz => ?_⟩))
    · by_cases e : j = x
      · rw [e]
        exact g
      · exact h2 j (by omega)
    · by_cases e : j = x
      · rw [e]
        exact Int32.le_refl _
      · exact Int32.le_trans (h2 j (by omega)) (Int32.le_of_lt (Int32.not_le.mp g))
    · have b0 := h3 hz
      rw [b0] at g
      exact absurd (hz x hx) g
/-! ===== correlate ===== -/
theorem qw_correlate {post : St2 → Prop} {a1 a2 : Nat → Int64} {a3 : Nat → Int32} {p : Int32} (t : Nat) {v : Nat} (ht : t < 4) (hv : v < 2 ^ 64) (ha : a1 t = lN v)
    (H : ∀ a, (∀ j, j < 64 → a j = Int32.ofInt ((qw_C v).getD j 0) / 64) → post (a1, a2, a)) (hp : p = nI t := by rfl) : wpX_correlate post (a1, a2, a3) p := by
  subst hp
  unfold wpX_correlate
  dsimp only
  refine qw_spectrumOf t ht hv ha (fun s hs => ?_)
  refine pk_loop (fun n x s => wX_correlate_7 post n (nI x) a1 a2 s) (fun x s => ∀ j, j < 64 → s j = Int32.ofInt (if j < x then qw_sq (qw_S v) j else (qw_S v).getD j 0)) 64 0 s (by omega) (fun j hj => ?_) (fun n s hs => ?_) (fun n x s hx hs hw => ?_)
  · rw [if_neg (by omega)]
    exact hs j hj
  · refine pk_le 64 64 (fun _ => qw_spread (G := qw_sq (qw_S v)) (fun j hj => by rw [hs j hj, if_pos hj]) (fun s2 h2 => ?_)) (fun z => absurd z (by omega))
    refine pk_loop (fun n x s => wX_correlate_44 post n (nI x) a1 a2 s) (fun x s => ∀ j, j < 64 → s j = if j < x then Int32.ofInt ((qw_C v).getD j 0) / 64 else Int32.ofInt ((qw_C v).getD j 0)) 64 0 s2 (by omega) (fun j hj => ?_) (fun n s hs => ?_) (fun n x s hx hs hw => ?_)
    · rw [if_neg (by omega), h2 j hj]
      exact congrArg Int32.ofInt (qw_WD _ hj).symm
    · refine pk_le 64 64 (fun _ => H s (fun j hj => by rw [hs j hj, if_pos hj])) (fun z => absurd z (by omega))
    · refine pk_le 64 x (fun z => absurd z (by omega)) (fun _ => ⟨pk_in x 64 hx, by decide, pk_in x 64 hx, nm_e (nm_r (nI_1 x) (hw _ (fun j hj => ?_)))⟩)
      rw [nI_clamp (show x < 2 ^ 31 by omega)]
      by_cases e : j = x
      · subst e
        rw [pk_us, hs j hj, if_neg (by omega), if_pos (by omega)]
      · rw [pk_un e, hs j hj]
        by_cases g : j < x
        · rw [if_pos g, if_pos (by omega)]
        · rw [if_neg g, if_neg (by omega)]
  · refine pk_le 64 x (fun z => absurd z (by omega)) (fun _ => ⟨pk_in x 64 hx, pk_in x 64 hx, pk_in x 64 hx, nm_e (nm_r (nI_1 x) (hw _ (fun j hj => ?_)))⟩)
    rw [nI_clamp (show x < 2 ^ 31 by omega)]
    by_cases e : j = x
    · subst e
      rw [pk_us, hs j hj, if_neg (by omega), if_pos (by omega), ← Int32.ofInt_mul]
      rfl
    · rw [pk_un e, hs j hj]
      by_cases g : j < x
      · rw [if_pos g, if_pos (by omega)]
      · rw [if_neg g, if_neg (by omega)]
end
section
/-! ===== the public methods, one lemma each ===== -/
theorem qw_turn {post : Int32 → St2 → Prop} {a1 : Nat → Int64} {a3 : Nat → Int32} {p q : Int32} (t u : Nat) {v : Nat} (ht : t < 4) (hu : u < 64) (hv : v < 2 ^ 64) (ha : a1 t = lN v)
    (H : post (nI (qw_on (v ^^^ qw_tr (2 ^ u) 6))) (vp_updL a1 t (lN (v ^^^ qw_tr (2 ^ u) 6)), qw_low, a3)) (hp : p = nI t := by rfl) (hq : q = nI u := by rfl) : wpX_turnForm post (a1, qw_low, a3) p q := by
  subst hp hq
  have hx : qw_tr (2 ^ u) 6 < 2 ^ 64 := qw_tr_lt (qw_tlt hu) 6 (by omega)
  unfold wpX_turnForm
  dsimp only
  rw [nI_clamp (show t < 2 ^ 31 by omega), qw_two u hu, ha]
  refine qw_bad t ht (br_t rfl (qw_pnt u hu (br_t rfl (qw_transformed (qw_tlt hu) ⟨pk_in t 4 ht, pk_in t 4 ht, nm_r (e' := vp_updL a1 t (lN (v ^^^ qw_tr (2 ^ u) 6))) (by rw [qw_lx]) ⟨pk_in t 4 ht, ?_⟩⟩))))
  rw [pk_uLs]
  exact qw_onesOf (Nat.xor_lt_two_pow hv hx) H
theorem qw_turn_e {post : Int32 → St2 → Prop} {a1 a2 : Nat → Int64} {a3 : Nat → Int32} (H : post (-1000) (a1, a2, a3)) : wpX_turnForm post (a1, a2, a3) 4 0 := by
  unfold wpX_turnForm
  dsimp only
  exact qw_bad1 (br_f (by decide) H)
/-- combine -/
def qw_op (o v w : Nat) : Nat := if o = 0 then v ^^^ w else if o = 1 then v &&& w else if o = 2 then v ||| w else (v ^^^ w) ^^^ 18446744073709551615
theorem qw_op_lt {o v w : Nat} (hv : v < 2 ^ 64) (hw : w < 2 ^ 64) : qw_op o v w < 2 ^ 64 := by
  unfold qw_op
  split
  · exact Nat.xor_lt_two_pow hv hw
  · split
    · exact Nat.and_lt_two_pow _ hw
    · split
      · exact Nat.or_lt_two_pow hv hw
      · exact Nat.xor_lt_two_pow (Nat.xor_lt_two_pow hv hw) (by decide)
theorem qw_126 {post : Int32 → St2 → Prop} {a1 : Nat → Int64} {a3 : Nat → Int32} {t x : Nat} (ht : t < 4) (hx : x < 2 ^ 64) (H : post (nI (qw_on x)) (vp_updL a1 t (lN x), qw_low, a3)) : wX_combine_126 post (nI t) (vp_updL a1 t (lN x)) qw_low a3 := by
  unfold wX_combine_126
  rw [nI_clamp (show t < 2 ^ 31 by omega), pk_uLs]
  exact ⟨pk_in t 4 ht, qw_onesOf hx H⟩
theorem qw_comb {post : Int32 → St2 → Prop} {a1 : Nat → Int64} {a3 : Nat → Int32} {p0 p1 p2 p3 : Int32} (t o r s : Nat) {v w : Nat} (ht : t < 4) (ho : o < 4) (hr : r < 4) (hs : s < 4) (hv : v < 2 ^ 64) (hw : w < 2 ^ 64) (ha : a1 r = lN v) (hb : a1 s = lN w)
    (H : post (nI (qw_on (qw_op o v w))) (vp_updL a1 t (lN (qw_op o v w)), qw_low, a3)) (h0 : p0 = nI t := by rfl) (h1 : p1 = nI o := by rfl) (h2 : p2 = nI r := by rfl) (h3 : p3 = nI s := by rfl) : wpX_combine post (a1, qw_low, a3) p0 p1 p2 p3 := by
  subst h0 h1 h2 h3
  have hx : qw_op o v w < 2 ^ 64 := qw_op_lt hv hw
  unfold wpX_combine
  dsimp only
  rw [nI_clamp (show t < 2 ^ 31 by omega), nI_clamp (show r < 2 ^ 31 by omega), nI_clamp (show s < 2 ^ 31 by omega)]
  refine qw_bad t ht (br_t rfl (pk_lt o 0 (fun z => absurd z (by omega)) (fun _ => pk_lt 3 o (fun z => absurd z (by omega)) (fun _ => qw_bad r hr (br_t rfl (qw_bad s hs (br_t rfl ⟨pk_in r 4 hr, nm_r ha ⟨pk_in s 4 hs, nm_r hb ?_⟩⟩)))))))
  refine pk_eq o 0 (fun z => ⟨pk_in t 4 ht, nm_r (e' := vp_updL a1 t (lN (qw_op o v w))) (by rw [qw_lx]; unfold qw_op; rw [if_pos z]) (qw_126 ht hx H)⟩) (fun z0 => ?_)
  refine pk_eq o 1 (fun z => ⟨pk_in t 4 ht, nm_r (e' := vp_updL a1 t (lN (qw_op o v w))) (by rw [wb_and hv hw]; unfold qw_op; rw [if_neg z0, if_pos z]) (qw_126 ht hx H)⟩) (fun z1 => ?_)
  refine pk_eq o 2 (fun z => ⟨pk_in t 4 ht, nm_r (e' := vp_updL a1 t (lN (qw_op o v w))) (by rw [wb_or hv hw]; unfold qw_op; rw [if_neg z0, if_neg z1, if_pos z]) (qw_126 ht hx H)⟩) (fun z2 => ?_)
  exact ⟨pk_in t 4 ht, nm_r (e' := vp_updL a1 t (lN (qw_op o v w))) (by rw [qw_neg1, qw_lx, qw_lx]; unfold qw_op; rw [if_neg z0, if_neg z1, if_neg z2]) (qw_126 ht hx H)⟩
theorem qw_comb_e {post : Int32 → St2 → Prop} {a1 a2 : Nat → Int64} {a3 : Nat → Int32} (H : post (-1000) (a1, a2, a3)) : wpX_combine post (a1, a2, a3) 0 4 0 0 := by
  unfold wpX_combine
  dsimp only
  exact qw_bad 0 (by decide) (br_t rfl (br_f (by decide) (br_t (by decide) H)))
/-- shift -/
theorem qw_shift {post : Int32 → St2 → Prop} {a1 : Nat → Int64} {a3 : Nat → Int32} {p0 p1 p2 p3 : Int32} (t r a b : Nat) {v : Nat} (ht : t < 4) (hr : r < 4) (ha : a < 64) (hb : b < 64) (hv : v < 2 ^ 64) (hA : a1 r = lN v)
    (H : post (nI (qw_on (qw_mv v a 6 ^^^ qw_ln b 6))) (vp_updL a1 t (lN (qw_mv v a 6 ^^^ qw_ln b 6)), qw_low, a3)) (h0 : p0 = nI t := by rfl) (h1 : p1 = nI r := by rfl) (h2 : p2 = nI a := by rfl) (h3 : p3 = nI b := by rfl) : wpX_shift post (a1, qw_low, a3) p0 p1 p2 p3 := by
  subst h0 h1 h2 h3
  unfold wpX_shift
  dsimp only
  rw [nI_clamp (show t < 2 ^ 31 by omega), nI_clamp (show r < 2 ^ 31 by omega), hA]
  refine qw_bad t ht (br_t rfl (qw_bad r hr (br_t rfl (qw_pnt a ha (br_t rfl (qw_pnt b hb (br_t rfl ⟨pk_in r 4 hr, qw_moved a ha hv (qw_linear b hb ⟨pk_in t 4 ht, nm_r (e' := vp_updL a1 t (lN (qw_mv v a 6 ^^^ qw_ln b 6))) (by rw [qw_lx]) ⟨pk_in t 4 ht, ?_⟩⟩)⟩)))))))
  rw [pk_uLs]
  exact qw_onesOf (Nat.xor_lt_two_pow (qw_mv_lt a hv 6 (by omega)) (qw_ln_lt b 6 (by omega))) H
theorem qw_shift_e {post : Int32 → St2 → Prop} {a1 a2 : Nat → Int64} {a3 : Nat → Int32} (H : post (-1000) (a1, a2, a3)) : wpX_shift post (a1, a2, a3) 0 0 64 0 := by
  unfold wpX_shift
  dsimp only
  exact qw_bad 0 (by decide) (br_t rfl (qw_bad 0 (by decide) (br_t rfl (qw_pnt1 (br_f (by decide) H)))))
/-- value, ones, form -/
theorem qw_value {post : Int32 → Prop} {a1 a2 : Nat → Int64} {a3 : Nat → Int32} {p q : Int32} (t x : Nat) {v : Nat} (ht : t < 4) (hx : x < 64) (hv : v < 2 ^ 64) (ha : a1 t = lN v) (H : post (nI (v / 2 ^ x % 2))) (hp : p = nI t := by rfl) (hq : q = nI x := by rfl) : wpX_value post (a1, a2, a3) p q := by
  subst hp hq
  unfold wpX_value
  dsimp only
  rw [nI_clamp (show t < 2 ^ 31 by omega), ha]
  exact qw_bad t ht (br_t rfl (qw_pnt x hx (br_t rfl ⟨pk_in t 4 ht, qw_digit x hx hv H⟩)))
theorem qw_ones {post : Int32 → Prop} {a1 : Nat → Int64} {a3 : Nat → Int32} {p : Int32} (t : Nat) {v : Nat} (ht : t < 4) (hv : v < 2 ^ 64) (ha : a1 t = lN v) (H : post (nI (qw_on v))) (hp : p = nI t := by rfl) : wpX_ones post (a1, qw_low, a3) p := by
  subst hp
  unfold wpX_ones
  dsimp only
  rw [nI_clamp (show t < 2 ^ 31 by omega), ha]
  exact qw_bad t ht (br_t rfl ⟨pk_in t 4 ht, qw_onesOf hv H⟩)
theorem qw_form {post : Int32 → Prop} {a1 : Nat → Int64} {a3 : Nat → Int32} {p q : Int32} (t u : Nat) {v : Nat} (ht : t < 4) (hu : u < 64) (hv : v < 2 ^ 64) (ha : a1 t = lN v) (H : post (nI (qw_tr v 6 / 2 ^ u % 2))) (hp : p = nI t := by rfl) (hq : q = nI u := by rfl) : wpX_form post (a1, qw_low, a3) p q := by
  subst hp hq
  unfold wpX_form
  dsimp only
  rw [nI_clamp (show t < 2 ^ 31 by omega), ha]
  exact qw_bad t ht (br_t rfl (qw_pnt u hu (br_t rfl ⟨pk_in t 4 ht, qw_transformed hv (qw_digit u hu (qw_tr_lt hv 6 (by omega)) H)⟩)))
/-- degree -/
theorem qw_degree {post : Int32 → Prop} {a1 : Nat → Int64} {a3 : Nat → Int32} {p : Int32} (t D : Nat) {v : Nat} (ht : t < 4) (hv : v < 2 ^ 64) (ha : a1 t = lN v) (hD : ∀ u, u < 64 → qw_tr v 6 / 2 ^ u % 2 = 1 → qw_sz u 6 ≤ D) (hD2 : D ≤ 6)
    (H : ∀ d, d ≤ D → (∀ u, u < 64 → qw_tr v 6 / 2 ^ u % 2 = 1 → qw_sz u 6 ≤ d) → post (nI d)) (hp : p = nI t := by rfl) : wpX_degree post (a1, qw_low, a3) p := by
  subst hp
  unfold wpX_degree
  dsimp only
  rw [nI_clamp (show t < 2 ^ 31 by omega), ha]
  refine qw_bad t ht (br_t rfl ⟨pk_in t 4 ht, qw_transformed hv ?_⟩)
  refine pk_loop (fun n u d => wX_degree_29 post (lN (qw_tr v 6)) a1 qw_low a3 n (nI d) (nI u)) (fun u d => d ≤ D ∧ ∀ x, x < u → qw_tr v 6 / 2 ^ x % 2 = 1 → qw_sz x 6 ≤ d) 64 0 0 (by omega) ⟨by omega, fun x hx => absurd hx (by omega)⟩ (fun n d hd => ?_) (fun n u d hu hd hw => ?_)
  · exact pk_le 64 64 (fun _ => H d hd.1 hd.2) (fun z => absurd z (by omega))
  · obtain ⟨h1, h2⟩ := hd
    have h6 := (qw_sz6 u hu).1
    refine pk_le 64 u (fun z => absurd z (by omega)) (fun _ => qw_sizeOf u hu (qw_digit u hu (qw_tr_lt hv 6 (by omega)) (pk_eq (qw_tr v 6 / 2 ^ u % 2) 1 (fun z => pk_le (qw_sz u 6) d (fun g => nm_r (nI_1 u) (hw d ⟨h1, fun x hx e => ?_⟩)) (fun g => nm_r (nI_1 u) (hw (qw_sz u 6) ⟨hD u hu z, fun x hx e => ?_⟩))) (fun z => nm_r (nI_1 u) (hw d ⟨h1, fun x hx e => ?_⟩)) (by rfl) (by rfl) qw_ml)))
    · by_cases c : x = u
      · rw [c]
        exact g
      · exact h2 x (by omega) e
    · by_cases c : x = u
      · rw [c]
        exact Nat.le_refl _
      · exact Nat.le_trans (h2 x (by omega) e) (by omega)
    · by_cases c : x = u
      · rw [c] at e
        exact absurd e z
      · exact h2 x (by omega) e
/-- spectrum, distance, nearest -/
theorem qw_spectrum {post : Int32 → St2 → Prop} {a1 : Nat → Int64} {a3 : Nat → Int32} {p q : Int32} (t c : Nat) {v : Nat} (ht : t < 4) (hc : c < 64) (hv : v < 2 ^ 64) (ha : a1 t = lN v)
    (H : ∀ a, post (Int32.ofInt ((qw_S v).getD c 0)) (a1, qw_low, a)) (hp : p = nI t := by rfl) (hq : q = nI c := by rfl) : wpX_spectrum post (a1, qw_low, a3) p q := by
  subst hp hq
  unfold wpX_spectrum
  dsimp only
  refine qw_bad t ht (br_t rfl (qw_pnt c hc (br_t rfl (qw_spectrumOf t ht hv ha (fun a h => ⟨pk_in c 64 hc, ?_⟩)))))
  dsimp only
  rw [nI_clamp (show c < 2 ^ 31 by omega), h c hc]
  exact H a
theorem qw_mgS {v h : Nat} {a : Nat → Int32} (hs : ∀ j, j < 64 → a j = Int32.ofInt ((qw_S v).getD j 0)) (hm : qw_mx h (qw_S v) = true) (hh : h ≤ 64) : (∀ j, j < 64 → qw_mg (a j) ≤ nI h) ∧ ∃ j, j < 64 ∧ qw_mg (a j) = nI h := by
  have e : ∀ j, j < 64 → ((qw_S v).getD j 0).natAbs ≤ h := fun j hj => qw_mx_le hm (by rw [qw_S_len]; exact hj)
  refine ⟨fun j hj => ?_, ?_⟩
  · have := e j hj
    rw [hs j hj, qw_mgI _ (by omega)]
    exact nI_le this (by omega)
  · obtain ⟨j, hj, ej⟩ := qw_mx_ex hm
    rw [qw_S_len] at hj
    exact ⟨j, hj, by rw [hs j hj, qw_mgI _ (by omega), ej]⟩
theorem qw_distance {post : Int32 → St2 → Prop} {a1 : Nat → Int64} {a3 : Nat → Int32} {p : Int32} (t h : Nat) {v : Nat} (ht : t < 4) (hv : v < 2 ^ 64) (ha : a1 t = lN v) (hm : qw_mx h (qw_S v) = true) (hh : h ≤ 64)
    (H : ∀ a, post (32 - nI h / 2) (a1, qw_low, a)) (hp : p = nI t := by rfl) : wpX_distance post (a1, qw_low, a3) p := by
  subst hp
  unfold wpX_distance
  dsimp only
  refine qw_bad t ht (br_t rfl (qw_spectrumOf t ht hv ha (fun a hs => qw_peak (fun b hb hx _ => ⟨pk_in b 64 hb, ?_⟩))))
  obtain ⟨g1, j, hj, g2⟩ := qw_mgS hs hm hh
  have e : qw_mg (a b) = nI h := Int32.le_antisymm (g1 b hb) (by rw [← g2]; exact hx j hj)
  rw [nI_clamp (show b < 2 ^ 31 by omega)]
  refine qw_mag ⟨by decide, ?_⟩
  rw [e]
  exact H a
theorem qw_nearest {post : Int32 → St2 → Prop} {a1 : Nat → Int64} {a3 : Nat → Int32} {p : Int32} (t h : Nat) {v : Nat} (ht : t < 4) (hv : v < 2 ^ 64) (ha : a1 t = lN v) (hm : qw_mx h (qw_S v) = true) (hh : h ≤ 64) (h0 : (qw_S v).getD 0 0 = (h : Int))
    (H : ∀ a, post 0 (a1, qw_low, a)) (hp : p = nI t := by rfl) : wpX_nearest post (a1, qw_low, a3) p := by
  subst hp
  unfold wpX_nearest
  dsimp only
  refine qw_bad t ht (br_t rfl (qw_spectrumOf t ht hv ha (fun a hs => qw_peak (fun b hb _ hx => ?_))))
  have e0 : qw_mg (a 0) = nI h := by
    rw [hs 0 (by omega), h0, qw_mgI _ (by rw [Int.natAbs_natCast]; omega), Int.natAbs_natCast]
  have b0 : b = 0 := hx (fun j hj => by rw [e0]; exact (qw_mgS hs hm hh).1 j hj)
  subst b0
  exact H a
/-- immunity -/
theorem qw_immunity {post : Int32 → St2 → Prop} {a1 : Nat → Int64} {a3 : Nat → Int32} {p : Int32} (t x0 : Nat) {v : Nat} (ht : t < 4) (hv : v < 2 ^ 64) (ha : a1 t = lN v) (h1 : 1 ≤ x0) (h2 : x0 < 64) (h3 : qw_sz x0 6 = 1) (h4 : ¬ Int32.ofInt ((qw_S v).getD x0 0) = 0)
    (H : ∀ a, post 0 (a1, qw_low, a)) (hp : p = nI t := by rfl) : wpX_immunity post (a1, qw_low, a3) p := by
  subst hp
  unfold wpX_immunity
  dsimp only
  refine qw_bad t ht (br_t rfl (qw_spectrumOf t ht hv ha (fun a hs => ?_)))
  refine pk_loop (fun n x m => wX_immunity_22 post a1 qw_low a n (nI m) (nI x)) (fun x m => 1 ≤ x ∧ 1 ≤ m ∧ m ≤ 7 ∧ (x0 < x → m = 1)) 64 1 7 (by omega) ⟨by omega, by omega, by omega, fun z => absurd z (by omega)⟩ (fun n m hm => ?_) (fun n x m hx hm hw => ?_)
  · refine pk_le 64 64 (fun _ => ?_) (fun z => absurd z (by omega))
    rw [hm.2.2.2 h2]
    exact H a
  · obtain ⟨hx1, m1, m2, m3⟩ := hm
    obtain ⟨s1, s2⟩ := qw_sz6 x hx
    have s2 := s2 hx1
    refine pk_le 64 x (fun z => absurd z (by omega)) (fun _ => qw_sizeOf x hx ⟨pk_in x 64 hx, ?_⟩)
    rw [nI_clamp (show x < 2 ^ 31 by omega)]
    refine br_c (fun e => nm_r (nI_1 x) (hw m ⟨by omega, m1, m2, fun z => ?_⟩)) (fun e => pk_le m (qw_sz x 6) (fun g => nm_r (nI_1 x) (hw m ⟨by omega, m1, m2, fun z => ?_⟩)) (fun g => nm_r (nI_1 x) (hw (qw_sz x 6) ⟨by omega, s2, by omega, fun z => ?_⟩)))
    · by_cases c : x0 = x
      · subst c
        rw [hs x0 h2] at e
        exact absurd e h4
      · exact m3 (by omega)
    · by_cases c : x0 = x
      · subst c
        omega
      · exact m3 (by omega)
    · by_cases c : x0 = x
      · subst c
        exact h3
      · have := m3 (by omega)
        omega
/-- autocorrelation, structures -/
theorem qw_autoc {post : Int32 → St2 → Prop} {a1 : Nat → Int64} {a3 : Nat → Int32} {p q : Int32} (t c : Nat) {v : Nat} (ht : t < 4) (hc : c < 64) (hv : v < 2 ^ 64) (ha : a1 t = lN v)
    (H : ∀ a, post (Int32.ofInt ((qw_C v).getD c 0) / 64) (a1, qw_low, a)) (hp : p = nI t := by rfl) (hq : q = nI c := by rfl) : wpX_autocorrelation post (a1, qw_low, a3) p q := by
  subst hp hq
  unfold wpX_autocorrelation
  dsimp only
  refine qw_bad t ht (br_t rfl (qw_pnt c hc (br_t rfl (qw_correlate t ht hv ha (fun a h => ⟨pk_in c 64 hc, ?_⟩)))))
  dsimp only
  rw [nI_clamp (show c < 2 ^ 31 by omega), h c hc]
  exact H a
theorem qw_structures {post : Int32 → St2 → Prop} {a1 : Nat → Int64} {a3 : Nat → Int32} {p : Int32} (t : Nat) {v : Nat} (q : Nat → Bool) (ht : t < 4) (hv : v < 2 ^ 64) (ha : a1 t = lN v)
    (hq : ∀ j, j < 64 → (qw_mg (Int32.ofInt ((qw_C v).getD j 0) / 64) = 64 ↔ q j = true)) (H : ∀ a, post (nI (qw_cn q 64)) (a1, qw_low, a)) (hp : p = nI t := by rfl) : wpX_structures post (a1, qw_low, a3) p := by
  subst hp
  unfold wpX_structures
  dsimp only
  refine qw_bad t ht (br_t rfl (qw_correlate t ht hv ha (fun a hs => ?_)))
  refine pk_loop (fun n x s => wX_structures_21 post a1 qw_low a n s (nI x)) (fun x s => s = nI (qw_cn q x)) 64 0 0 (by omega) rfl (fun n s h => pk_le 64 64 (fun _ => by rw [h]; exact H a) (fun z => absurd z (by omega))) (fun n x s hx h hw => ?_)
  subst h
  refine pk_le 64 x (fun z => absurd z (by omega)) (fun _ => ⟨pk_in x 64 hx, qw_mag ?_⟩)
  rw [nI_clamp (show x < 2 ^ 31 by omega), hs x hx]
  refine ek_if (hq x hx) (fun e => nm_r (e' := nI (qw_cn q (x + 1))) ?_ (nm_r (nI_1 x) (hw _ rfl))) (fun e => nm_r (nI_1 x) (hw _ ?_))
  · show _ = nI (if q x = true then qw_cn q x + 1 else qw_cn q x)
    rw [if_pos e, nI_1]
  · show _ = nI (if q x = true then qw_cn q x + 1 else qw_cn q x)
    rw [if_neg e]
/-- variables -/
theorem qw_variables {post : Int32 → Prop} {a1 : Nat → Int64} {a3 : Nat → Int32} {p : Int32} (t : Nat) {v : Nat} (ht : t < 4) (hv : v < 2 ^ 64) (ha : a1 t = lN v) (H : post (nI (qw_vr v 6))) (hp : p = nI t := by rfl) : wpX_variables post (a1, qw_low, a3) p := by
  subst hp
  unfold wpX_variables
  dsimp only
  refine qw_bad t ht (br_t rfl ?_)
  refine pk_loop (fun n i s => wX_variables_16 post (nI t) a1 qw_low a3 n s (nI i)) (fun i s => s = nI (qw_vr v i)) 6 0 0 (by omega) rfl (fun n s h => pk_le 6 6 (fun _ => by rw [h]; exact H) (fun z => absurd z (by omega))) (fun n i s hi h hw => ?_)
  subst h
  refine pk_le 6 i (fun z => absurd z (by omega)) (fun _ => ⟨pk_in t 4 ht, ?_⟩)
  rw [nI_clamp (show t < 2 ^ 31 by omega), ha, qw_sh1 i hi]
  refine qw_moved (2 ^ i) (qw_p64 i hi) hv ⟨pk_in t 4 ht, ek_if (qw_lj (qw_mv_lt _ hv 6 (by omega)) hv) (fun e => nm_r (nI_1 i) (hw _ ?_)) (fun e => nm_r (e' := nI (qw_vr v (i + 1))) ?_ (nm_r (nI_1 i) (hw _ rfl)))⟩
  · show _ = nI (if qw_mv v (2 ^ i) 6 = v then qw_vr v i else qw_vr v i ||| 2 ^ i)
    rw [if_pos e]
  · show _ = nI (if qw_mv v (2 ^ i) 6 = v then qw_vr v i else qw_vr v i ||| 2 ^ i)
    rw [if_neg e, qw_no]
/-- shifted -/
theorem qw_rd_lt (w : Nat) : ∀ i, qw_rd w i < 2 ^ i
  | 0 => by show 0 < 2 ^ 0; decide
  | i + 1 => by
    have h := qw_rd_lt w i
    have h2 := Nat.mod_two_eq_zero_or_one (w / 2 ^ (2 ^ i))
    have hp := Nat.two_pow_pos i
    show qw_rd w i ||| (w / 2 ^ (2 ^ i) % 2 * 2 ^ i) < 2 ^ (i + 1)
    refine Nat.or_lt_two_pow ?_ ?_
    · rw [Nat.pow_succ]
      omega
    · rw [Nat.pow_succ]
      rcases h2 with h2 | h2
      · rw [h2]
        omega
      · rw [h2]
        omega
theorem qw_sh65 {post : Int32 → Prop} {J : Int32 → Int32 → Prop} {x1 x2 x4 : Int32} {a1 : Nat → Int64} {a3 : Nat → Int32} {w : Nat} (hw : w < 2 ^ 64) (H1 : w = qw_ln (qw_rd w 6) 6 → J 1 (x4 + 1)) (H0 : ¬ w = qw_ln (qw_rd w 6) 6 → J 0 (x4 + 1)) : ∃ n, wX_shifted_65 post J x1 x2 x4 (lN w) a1 qw_low a3 n 0 0 := by
  refine pk_loop (fun n i s => wX_shifted_65 post J x1 x2 x4 (lN w) a1 qw_low a3 n s (nI i)) (fun i s => s = nI (qw_rd w i)) 6 0 0 (by omega) rfl (fun n s h => ?_) (fun n i s hi h hn => ?_)
  · subst h
    exact pk_le 6 6 (fun _ => qw_linear (qw_rd w 6) (qw_rd_lt w 6) (ek_if (qw_lj hw (qw_ln_lt _ 6 (by omega))) (fun e => nm_e (H1 e)) (fun e => nm_e (H0 e)))) (fun z => absurd z (by omega))
  · subst h
    refine pk_le 6 i (fun z => absurd z (by omega)) (fun _ => qw_digit (2 ^ i) (qw_p64 i hi) hw (nm_r (e' := nI (qw_rd w (i + 1))) ?_ (nm_r (nI_1 i) (hn _ rfl))) (qw_sh1 i hi))
    rw [qw_shd i hi _ (Nat.mod_lt _ (by decide)), qw_no]
    rfl
theorem qw_shifted {post : Int32 → Prop} {a1 : Nat → Int64} {a3 : Nat → Int32} {p q : Int32} (t r a b : Nat) {v w : Nat} (ht : t < 4) (hr : r < 4) (ha : a < 64) (hb : b < 64) (hv : v < 2 ^ 64) (hA : a1 r = lN v) (hB : a1 t = lN w) (hw : w = qw_mv v a 6 ^^^ qw_ln b 6)
    (H : post 1) (hp : p = nI t := by rfl) (hq : q = nI r := by rfl) : wpX_shifted post (a1, qw_low, a3) p q := by
  subst hp hq
  have hm : ∀ x, qw_mv v x 6 < 2 ^ 64 := fun x => qw_mv_lt x hv 6 (by omega)
  have hw64 : w < 2 ^ 64 := by
    rw [hw]
    exact Nat.xor_lt_two_pow (hm a) (qw_ln_lt b 6 (by omega))
  unfold wpX_shifted
  dsimp only
  refine qw_bad t ht (br_t rfl (qw_bad r hr (br_t rfl ?_)))
  refine pk_loop (fun n x s => wX_shifted_23 post (nI t) (nI r) a1 qw_low a3 n s (nI x)) (fun x s => (s = 0 ∧ x ≤ a) ∨ s = 1) 64 0 0 (by omega) (Or.inl ⟨rfl, by omega⟩) (fun n s h => ?_) (fun n x s hx h hn => ?_)
  · rcases h with h | h
    · exact absurd h.2 (by omega)
    · subst h
      exact pk_le 64 64 (fun _ => ⟨rfl, H⟩) (fun z => absurd z (by omega))
  · rcases h with ⟨h, hxa⟩ | h
    · subst h
      refine pk_le 64 x (fun z => absurd z (by omega)) (fun _ => br_t rfl ⟨pk_in r 4 hr, ?_⟩)
      rw [nI_clamp (show r < 2 ^ 31 by omega), hA, nI_clamp (show t < 2 ^ 31 by omega), hB]
      refine qw_moved x hx hv ⟨pk_in t 4 ht, nm_r (qw_lx _ _) (qw_sh65 (Nat.xor_lt_two_pow (hm x) hw64) (fun _ => ?_) (fun e => ?_))⟩
      · rw [nI_1]
        exact hn 1 (Or.inr rfl)
      · rw [nI_1]
        refine hn 0 (Or.inl ⟨rfl, ?_⟩)
        rcases Nat.lt_or_eq_of_le hxa with c | c
        · omega
        · subst c
          exfalso
          apply e
          have ex : qw_mv v x 6 ^^^ w = qw_ln b 6 := by rw [hw, ← Nat.xor_assoc, Nat.xor_self, Nat.zero_xor]
          rw [ex, qw_KR b hb]
    · subst h
      exact pk_le 64 x (fun z => absurd z (by omega)) (fun _ => br_f (by decide) ⟨rfl, H⟩)
/-- put -/
theorem qw_put {post : Int32 → St2 → Prop} {a1 : Nat → Int64} {a3 : Nat → Int32} {p0 p1 : Int32} (t x : Nat) {v : Nat} (ht : t < 4) (hx : x < 64) (hv : v < 2 ^ 64) (ha : a1 t = lN v) (hd : v / 2 ^ x % 2 = 0)
    (H : post 0 (vp_updL a1 t (lN (v ^^^ 2 ^ x)), qw_low, a3)) (h0 : p0 = nI t := by rfl) (h1 : p1 = nI x := by rfl) : wpX_put post (a1, qw_low, a3) p0 p1 1 := by
  subst h0 h1
  unfold wpX_put
  dsimp only
  rw [nI_clamp (show t < 2 ^ 31 by omega), ha, qw_two x hx, qw_lx]
  refine qw_bad t ht (br_t rfl (qw_pnt x hx (br_t rfl (br_f (by decide) (br_t (by decide) ⟨pk_in t 4 ht, qw_digit x hx hv ?_⟩)))))
  rw [hd]
  exact br_f (by decide) ⟨pk_in t 4 ht, pk_in t 4 ht, nm_e H⟩
theorem qw_put_e1 {post : Int32 → St2 → Prop} {a1 a2 : Nat → Int64} {a3 : Nat → Int32} (H : post (-1000) (a1, a2, a3)) : wpX_put post (a1, a2, a3) 0 64 1 := by
  unfold wpX_put
  dsimp only
  exact qw_bad 0 (by decide) (br_t rfl (qw_pnt1 (br_f (by decide) H)))
theorem qw_put_e2 {post : Int32 → St2 → Prop} {a1 a2 : Nat → Int64} {a3 : Nat → Int32} (H : post (-1000) (a1, a2, a3)) : wpX_put post (a1, a2, a3) 0 1 2 := by
  unfold wpX_put
  dsimp only
  exact qw_bad 0 (by decide) (br_t rfl (qw_pnt 1 (by decide) (br_t rfl (br_f (by decide) (br_f (by decide) H)))))
end
section
/-! ===== the plain law: what the kernel computed, as statements ===== -/
theorem qw_tbit {f u : Nat} : f / 2 ^ u % 2 = 1 ↔ f.testBit u = true := by
  rw [Nat.testBit_eq_decide_div_mod_eq, decide_eq_true_iff]
theorem qw_d2_le {f : Nat} (h : qw_d2 f = true) : (∀ u, u < 64 → f / 2 ^ u % 2 = 1 → qw_sz u 6 ≤ 2) ∧ ∃ u, u < 64 ∧ f / 2 ^ u % 2 = 1 ∧ qw_sz u 6 = 2 := by
  unfold qw_d2 at h
  rw [Bool.and_eq_true, Bool.not_eq_true'] at h
  obtain ⟨h1, h2⟩ := h
  have h1 := Nat.eq_of_beq_eq_true h1
  refine ⟨fun u hu e => ?_, ?_⟩
  · rw [qw_tbit] at e
    refine (qw_KS u hu).1 ?_
    have g : (f &&& qw_m3).testBit u = false := by rw [h1, Nat.zero_testBit]
    rw [Nat.testBit_and, e, Bool.true_and] at g
    exact g
  · have h3 : f &&& qw_m2 ≠ 0 := fun e => by
      rw [e] at h2
      exact absurd h2 (by decide)
    obtain ⟨u, hu⟩ := Nat.exists_testBit_of_ne_zero h3
    have h64 : u < 64 := by
      rcases Nat.lt_or_ge u 64 with c | c
      · exact c
      · have hl : f &&& qw_m2 < 2 ^ u := Nat.lt_of_lt_of_le (Nat.and_lt_two_pow (n := 64) f (by decide)) (Nat.pow_le_pow_right (by decide) c)
        rw [Nat.testBit_lt_two_pow hl] at hu
        exact absurd hu (by decide)
    rw [Nat.testBit_and, Bool.and_eq_true] at hu
    exact ⟨u, h64, qw_tbit.mpr hu.1, (qw_KS u h64).2.1 hu.2⟩
theorem qw_hi_v {p : Nat} (h1 : 1 ≤ p) (h4 : p < 4) : (p = 1 ∧ qw_hi p = 32 ∧ qw_wd p = 16) ∨ (p = 2 ∧ qw_hi p = 16 ∧ qw_wd p = 4) ∨ (p = 3 ∧ qw_hi p = 8 ∧ qw_wd p = 1) := by
  have h : p = 1 ∨ p = 2 ∨ p = 3 := by omega
  rcases h with h | h | h
  · subst h
    exact Or.inl ⟨rfl, rfl, rfl⟩
  · subst h
    exact Or.inr (Or.inl ⟨rfl, rfl, rfl⟩)
  · subst h
    exact Or.inr (Or.inr ⟨rfl, rfl, rfl⟩)
theorem qw_hi_le {p : Nat} : qw_hi p ≤ 64 := by
  unfold qw_hi
  split
  · decide
  · split
    · decide
    · decide
theorem qw_af_lt (k : Nat) : qw_af k < 2 ^ 64 := by
  unfold qw_af
  split
  · exact qw_ln_lt _ 6 (by omega)
  · exact Nat.xor_lt_two_pow (qw_ln_lt _ 6 (by omega)) (by decide)
/-- t1 = t0 ^ affine -/
theorem qw_F1 {t p k : Nat} (ht : t < 6) (h1 : 1 ≤ p) (h4 : p < 4) (hk : k < 128) : 32 - qw_hi p / 2 ≤ qw_on (qw_tb t p ^^^ qw_af k) ∧ qw_on (qw_tb t p ^^^ qw_af k) ≤ 32 + qw_hi p / 2 ∧ qw_d2 (qw_tr (qw_tb t p ^^^ qw_af k) 6) = true
    ∧ qw_on (qw_tb t p &&& (qw_tb t p ^^^ qw_af k)) + qw_on (qw_tb t p ||| (qw_tb t p ^^^ qw_af k)) = qw_on (qw_tb t p) + qw_on (qw_tb t p ^^^ qw_af k)
    ∧ qw_on (qw_tb t p ||| (qw_tb t p ^^^ qw_af k)) = qw_on (qw_tb t p &&& (qw_tb t p ^^^ qw_af k)) + qw_on (qw_af k)
    ∧ qw_on (qw_af k ^^^ 18446744073709551615) + qw_on (qw_af k) = 64 ∧ qw_mx (qw_hi p) (qw_S (qw_tb t p ^^^ qw_af k)) = true := by
  have h := qw_K1 t ht p h4 h1
  unfold qw_c1 at h
  have h := List.all_eq_true.mp h k (List.mem_range.mpr hk)
  unfold qw_ck qw_kp at h
  rw [Bool.and_eq_true, Bool.and_eq_true, Bool.and_eq_true, Bool.and_eq_true, Bool.and_eq_true, Bool.and_eq_true] at h
  obtain ⟨⟨g1, g2, g3, g4, g5, g6⟩, g7⟩ := h
  exact ⟨Nat.le_of_ble_eq_true g1, Nat.le_of_ble_eq_true g2, g3, Nat.eq_of_beq_eq_true g4, Nat.eq_of_beq_eq_true g5, Nat.eq_of_beq_eq_true g6, g7⟩
theorem qw_FA {k : Nat} (hk : k < 128) : qw_mx 64 (qw_S (qw_af k)) = true ∧ (∀ j, j < 64 → ((qw_C (qw_af k)).getD j 0).natAbs = 4096) ∧ (∀ u, u < 64 → qw_tr (qw_af k) 6 / 2 ^ u % 2 = 1 → qw_sz u 6 ≤ 1) := by
  have h := List.all_eq_true.mp qw_KA k (List.mem_range.mpr hk)
  unfold qw_ca at h
  rw [Bool.and_eq_true, Bool.and_eq_true] at h
  obtain ⟨g1, g2, g3⟩ := h
  refine ⟨g1, fun j hj => Nat.eq_of_beq_eq_true (qw_all g2 (by rw [qw_C_len]; exact hj)), fun u hu e => ?_⟩
  have g3 := Nat.eq_of_beq_eq_true g3
  rw [qw_tbit] at e
  have g : (qw_tr (qw_af k) 6 &&& (qw_m3 ||| qw_m2)).testBit u = false := by rw [g3, Nat.zero_testBit]
  rw [Nat.testBit_and, e, Bool.true_and, Nat.testBit_or, Bool.or_eq_false_iff] at g
  exact (qw_KS u hu).2.2 g.2 g.1
theorem qw_F0 {t p c : Nat} (ht : t < 6) (h1 : 1 ≤ p) (h4 : p < 4) (hc : c < 64) : ((qw_S (qw_tb t p)).getD c 0 = if c &&& (63 ^^^ qw_us t p) = 0 then (if qw_od c t p = 1 then -(qw_hi p : Int) else (qw_hi p : Int)) else 0)
    ∧ ((qw_C (qw_tb t p)).getD c 0 = if c &&& qw_us t p = 0 then 4096 else 0) ∧ qw_tb t p / 2 ^ c % 2 = qw_od c t p := by
  have h := qw_K0 t ht p h4 h1 c hc
  unfold qw_c0 at h
  rw [Bool.and_eq_true, Bool.and_eq_true] at h
  exact ⟨of_decide_eq_true h.1, of_decide_eq_true h.2.1, Nat.eq_of_beq_eq_true h.2.2⟩
/-- the shifted table -/
theorem qw_FB {t p a b : Nat} (ht : t < 6) (h4 : p < 4) (ha : a < 64) (hb : b < 64) : ∃ k, k < 128 ∧ qw_mv (qw_tb t p) a 6 ^^^ qw_ln b 6 = qw_tb t p ^^^ qw_af k := by
  obtain ⟨g1, g2⟩ := qw_KD t ht p h4 a ha
  refine ⟨qw_ix (qw_mv (qw_tb t p) a 6 ^^^ qw_tb t p) ^^^ b, Nat.xor_lt_two_pow (n := 7) g1 (by omega), ?_⟩
  rw [← qw_KL _ g1 b hb, g2, ← Nat.xor_assoc, Nat.xor_comm (qw_mv (qw_tb t p) a 6) (qw_tb t p), ← Nat.xor_assoc, Nat.xor_self, Nat.zero_xor]
theorem qw_af0 : qw_af 0 = 0 := by decide +kernel
theorem qw_od0 (t : Nat) : ∀ p, qw_od 0 t p = 0
  | 0 => rfl
  | p + 1 => by
    show (if 0 &&& qw_p1 t p = 0 then qw_od 0 t p else if 0 &&& qw_p2 t p = 0 then qw_od 0 t p else qw_od 0 t p ^^^ 1) = 0
    rw [if_pos (Nat.zero_and _)]
    exact qw_od0 t p
theorem qw_S0 {t p : Nat} (ht : t < 6) (h1 : 1 ≤ p) (h4 : p < 4) : (qw_S (qw_tb t p)).getD 0 0 = (qw_hi p : Int) := by
  rw [(qw_F0 ht h1 h4 (show 0 < 64 by omega)).1, if_pos (Nat.zero_and _), if_neg (by rw [qw_od0]; decide)]
theorem qw_Sx {t p : Nat} (ht : t < 6) (h1 : 1 ≤ p) (h4 : p < 4) : ¬ Int32.ofInt ((qw_S (qw_tb t p)).getD (qw_p1 t 0) 0) = 0 := by
  obtain ⟨g1, g2, g3, g4⟩ := qw_KI t ht p h4 h1
  rw [(qw_F0 ht h1 h4 g1).1, if_pos g4]
  rcases qw_hi_v h1 h4 with ⟨_, e, _⟩ | ⟨_, e, _⟩ | ⟨_, e, _⟩
  · rw [e]
    split
    · decide
    · decide
  · rw [e]
    split
    · decide
    · decide
  · rw [e]
    split
    · decide
    · decide
theorem qw_od2 {t p c : Nat} (ht : t < 6) (h1 : 1 ≤ p) (h4 : p < 4) (hc : c < 64) : qw_od c t p < 2 := by
  rw [← (qw_F0 ht h1 h4 hc).2.2]
  exact Nat.mod_lt _ (by decide)
/-- structures -/
theorem qw_q64 {z : Int} (h : z.natAbs = 4096) : qw_mg (Int32.ofInt z / 64) = 64 := by
  have e : z = 4096 ∨ z = -4096 := by omega
  rcases e with e | e
  · subst e
    decide
  · subst e
    decide
theorem qw_q0 {z : Int} {x : Nat} (h : z = if x = 0 then 4096 else 0) : qw_mg (Int32.ofInt z / 64) = 64 ↔ Nat.beq x 0 = true := by
  by_cases c : x = 0
  · subst c
    subst h
    decide
  · rw [if_neg c] at h
    subst h
    constructor
    · intro e
      exact absurd e (by decide)
    · intro e
      exact absurd (Nat.eq_of_beq_eq_true e) c
theorem qw_cn1 : qw_cn (fun _ => true) 64 = 64 := by decide +kernel
theorem qw_in : ∀ c, c < 64 → ∀ u, u < 64 → (nI c &&& (nI u ^^^ (-1)) = 0 ↔ c &&& (63 ^^^ u) = 0) := by decide +kernel
theorem qw_xx (v w : Nat) : v ^^^ (v ^^^ w) = w := by rw [← Nat.xor_assoc, Nat.xor_self, Nat.zero_xor]
end
section
/-! ===== the law, from its end ===== -/
theorem qw_661 {post : Int32 → St0 → Prop} {mc ms kc ks : Nat} {a1 : Nat → Int64} {a3 : Nat → Int32} (h0 : a1 0 = lN 0) (H : post 1 ()) : ∃ n, wL_lawOf_661 post mc ms 0 kc ks n 1 0 a1 qw_low a3 := by
  obtain ⟨k1, k2, k3, k4, k5, k6⟩ := qw_KZ
  refine pk_loop (fun n i s => wL_lawOf_661 post mc ms 0 kc ks n 1 (nI i) s.1 qw_low s.2) (fun i (s : (Nat → Int64) × (Nat → Int32)) => s.1 0 = lN (qw_pt i)) 6 0 (a1, a3) (by omega) h0 (fun n s hs => ?_) (fun n i s hi hs hw => ?_)
  · obtain ⟨b1, b3⟩ := s
    have hs : b1 0 = lN (qw_pt 6) := hs
    refine pk_le 6 6 (fun _ => br_f (by decide) (br_t rfl (qw_ones 0 (by decide) k6 hs (br_t (congrArg nI k1) (qw_form 0 63 (by decide) (by decide) k6 hs (br_t (congrArg nI k2) (qw_immunity 0 1 (by decide) k6 hs (by decide) (by decide) (by decide) (by rw [k5]; decide) (fun a => br_t rfl (qw_variables 0 (by decide) k6 hs (br_t (congrArg nI k3) (qw_spectrum 0 0 (by decide) (by decide) k6 hs (fun a => br_t (by rw [k4]; decide) ?_)))))))))))) (fun z => absurd z (by omega))
    exact qw_put_e1 (br_t rfl (qw_put_e2 (br_t rfl (qw_comb_e (br_t rfl (qw_shift_e (br_t rfl (qw_turn_e (br_t rfl (qw_ones 0 (by decide) k6 hs (br_t (congrArg nI k1) H)))))))))))
  · obtain ⟨b1, b3⟩ := s
    have hs : b1 0 = lN (qw_pt i) := hs
    obtain ⟨g1, g2⟩ := qw_KP i hi
    have hn : vp_updL b1 0 (lN (qw_pt i ^^^ 2 ^ (2 ^ i))) 0 = lN (qw_pt (i + 1)) := by
      rw [pk_uLs]
      rfl
    exact pk_le 6 i (fun z => absurd z (by omega)) (fun _ => qw_put 0 (2 ^ i) (by decide) (qw_p64 i hi) g1 hs g2 (br_f (by decide) (br_t rfl (nm_r (nI_1 i) (hw (vp_updL b1 0 (lN (qw_pt i ^^^ 2 ^ (2 ^ i))), b3) hn)))) (by rfl) (qw_sh1 i hi))
theorem qw_646 {post : Int32 → St0 → Prop} {mc ms kc ks : Nat} {a1 : Nat → Int64} {a3 : Nat → Int32} {v : Nat} (hv : v < 2 ^ 64) (h0 : a1 0 = lN v) (H : post 1 ()) : wL_lawOf_646 post mc ms 1 kc ks a1 qw_low a3 := by
  have e : qw_op 0 v v = 0 := by
    unfold qw_op
    rw [if_pos rfl, Nat.xor_self]
  have e2 : nI (qw_on 0) = 0 := by decide +kernel
  unfold wL_lawOf_646
  refine qw_comb 0 0 0 0 (by decide) (by decide) (by decide) (by decide) hv hv h0 h0 ?_
  dsimp only
  rw [e, e2]
  exact qw_661 pk_uLs H
theorem qw_557 {post : Int32 → St0 → Prop} {mc ms kc ks : Nat} {a1 : Nat → Int64} {a3 : Nat → Int32} {t p k : Nat} (ht : t < 6) (h1 : 1 ≤ p) (h4 : p < 4) (hk : k < 128) (hA : a1 0 = lN (qw_tb t p)) (hB : a1 1 = lN (qw_tb t p ^^^ qw_af k)) (H : post 1 ()) : wL_lawOf_557 post mc ms (nI (qw_on (qw_af k))) 1 kc ks a1 qw_low a3 := by
  obtain ⟨f1, f2, f3, f4, f5, f6, f7⟩ := qw_F1 ht h1 h4 hk
  have hv : qw_tb t p < 2 ^ 64 := (qw_KU t ht p h4).2.1
  have hw : qw_tb t p ^^^ qw_af k < 2 ^ 64 := Nat.xor_lt_two_pow hv (qw_af_lt k)
  have e1 : qw_op 1 (qw_tb t p) (qw_tb t p ^^^ qw_af k) = qw_tb t p &&& (qw_tb t p ^^^ qw_af k) := rfl
  have e2 : qw_op 2 (qw_tb t p) (qw_tb t p ^^^ qw_af k) = qw_tb t p ||| (qw_tb t p ^^^ qw_af k) := rfl
  have e3 : qw_op 3 (qw_tb t p) (qw_tb t p ^^^ qw_af k) = qw_af (k ^^^ 64) := by
    show (qw_tb t p ^^^ (qw_tb t p ^^^ qw_af k)) ^^^ 18446744073709551615 = _
    rw [qw_xx, qw_KM k hk]
  rw [qw_KM k hk] at f6
  have h3 : (0 : Nat) ≠ 3 := by decide
  have h31 : (1 : Nat) ≠ 3 := by decide
  unfold wL_lawOf_557
  refine qw_comb 3 1 0 1 (by decide) (by decide) (by decide) (by decide) hv hw hA hB ?_
  rw [e1]
  generalize hq1 : vp_updL a1 3 (lN (qw_tb t p &&& (qw_tb t p ^^^ qw_af k))) = b1
  have hA1 : b1 0 = lN (qw_tb t p) := by rw [← hq1, pk_uLn h3, hA]
  have hB1 : b1 1 = lN (qw_tb t p ^^^ qw_af k) := by rw [← hq1, pk_uLn h31, hB]
  refine qw_comb 3 2 0 1 (by decide) (by decide) (by decide) (by decide) hv hw hA1 hB1 ?_
  rw [e2]
  generalize hq2 : vp_updL b1 3 (lN (qw_tb t p ||| (qw_tb t p ^^^ qw_af k))) = b2
  have hA2 : b2 0 = lN (qw_tb t p) := by rw [← hq2, pk_uLn h3, hA1]
  have hB2 : b2 1 = lN (qw_tb t p ^^^ qw_af k) := by rw [← hq2, pk_uLn h31, hB1]
  refine qw_comb 3 3 0 1 (by decide) (by decide) (by decide) (by decide) hv hw hA2 hB2 ?_
  rw [e3]
  generalize hq3 : vp_updL b2 3 (lN (qw_af (k ^^^ 64))) = b3
  have hA3 : b3 0 = lN (qw_tb t p) := by rw [← hq3, pk_uLn h3, hA2]
  have hB3 : b3 1 = lN (qw_tb t p ^^^ qw_af k) := by rw [← hq3, pk_uLn h31, hB2]
  have hC3 : b3 3 = lN (qw_af (k ^^^ 64)) := by rw [← hq3, pk_uLs]
  have hk2 : k ^^^ 64 < 128 := Nat.xor_lt_two_pow (n := 7) hk (by decide)
  refine br_f (by decide) (qw_ones 0 (by decide) hv hA3 (qw_ones 1 (by decide) hw hB3 (br_t ?_ (br_t ?_ (br_t ?_ (qw_distance 3 64 (by decide) (qw_af_lt _) hC3 (qw_FA hk2).1 (by decide) (fun a => br_t (by decide) (qw_646 hv hA3 H))))))))
  · rw [nI_add, nI_add, f4]
  · rw [show (64 : Int32) = nI 64 from rfl, pk_sub (by omega)]
    exact congrArg nI (by omega)
  · rw [pk_sub (by omega)]
    exact congrArg nI (by omega)
theorem qw_431 {post : Int32 → St0 → Prop} {mc ms kc ks : Nat} {a1 : Nat → Int64} {a3 : Nat → Int32} {t p a b : Nat} (ht : t < 6) (h1 : 1 ≤ p) (h4 : p < 4) (ha : a < 64) (hb : b < 64) (hA : a1 0 = lN (qw_tb t p)) (H : post 1 ()) : wL_lawOf_431 post mc ms (nI a) (nI b) (nI (qw_hi p)) 1 kc ks a1 qw_low a3 := by
  obtain ⟨k, hk, eB⟩ := qw_FB ht h4 ha hb
  obtain ⟨f1, f2, f3, f4, f5, f6, f7⟩ := qw_F1 ht h1 h4 hk
  obtain ⟨j1, j2, j3⟩ := qw_FA hk
  obtain ⟨_, _, _, _, _, _, f70⟩ := qw_F1 (k := 0) ht h1 h4 (by decide)
  rw [qw_af0, Nat.xor_zero] at f70
  obtain ⟨d1, u, hu, d2, d3⟩ := qw_d2_le f3
  have hv : qw_tb t p < 2 ^ 64 := (qw_KU t ht p h4).2.1
  have hw : qw_tb t p ^^^ qw_af k < 2 ^ 64 := Nat.xor_lt_two_pow hv (qw_af_lt k)
  have hh := @qw_hi_le p
  have hd : nI (qw_hi p) / 2 = nI (qw_hi p / 2) := pk_div (d := 2) (by omega) (by decide) (by decide)
  have hlo : 32 - nI (qw_hi p) / 2 = nI (32 - qw_hi p / 2) := by
    rw [hd]
    exact pk_sub (a := 32) (by omega)
  have hup : 32 + nI (qw_hi p) / 2 = nI (32 + qw_hi p / 2) := by
    rw [hd]
    exact nI_add 32 _
  have e0 : qw_op 0 (qw_tb t p) (qw_tb t p ^^^ qw_af k) = qw_af k := by
    show qw_tb t p ^^^ (qw_tb t p ^^^ qw_af k) = _
    rw [qw_xx]
  have hon := qw_on_lt (qw_tb t p ^^^ qw_af k)
  unfold wL_lawOf_431
  refine qw_shift 1 0 a b (by decide) (by decide) ha hb hv hA ?_
  rw [eB]
  generalize hq1 : vp_updL a1 1 (lN (qw_tb t p ^^^ qw_af k)) = b1
  have hA1 : b1 0 = lN (qw_tb t p) := by rw [← hq1, pk_uLn (by decide), hA]
  have hB1 : b1 1 = lN (qw_tb t p ^^^ qw_af k) := by rw [← hq1, pk_uLs]
  refine qw_comb 2 0 0 1 (by decide) (by decide) (by decide) (by decide) hv hw hA1 hB1 ?_
  rw [e0]
  generalize hq2 : vp_updL b1 2 (lN (qw_af k)) = b2
  have hA2 : b2 0 = lN (qw_tb t p) := by rw [← hq2, pk_uLn (by decide), hA1]
  have hB2 : b2 1 = lN (qw_tb t p ^^^ qw_af k) := by rw [← hq2, pk_uLn (by decide), hB1]
  have hC2 : b2 2 = lN (qw_af k) := by rw [← hq2, pk_uLs]
  refine br_f (by decide) ⟨by decide, pk_lt (qw_on (qw_tb t p ^^^ qw_af k)) (32 - qw_hi p / 2) (fun z => absurd z (by omega)) (fun _ => ⟨by decide, pk_lt (32 + qw_hi p / 2) (qw_on (qw_tb t p ^^^ qw_af k)) (fun z => absurd z (by omega)) (fun _ => ?_) hup⟩) (by rfl) hlo⟩
  refine qw_shifted 1 0 a b (by decide) (by decide) ha hb hv hA2 hB2 eB.symm (br_f (by decide) ?_)
  refine qw_degree 1 2 (by decide) hw hB2 d1 (by decide) (fun d hd1 hd2 => br_t ?_ ?_)
  · have := hd2 u hu d2
    have e : d = 2 := by omega
    rw [e]
    rfl
  refine qw_distance 1 (qw_hi p) (by decide) hw hB2 f7 hh (fun _ => qw_distance 0 (qw_hi p) (by decide) hv hA2 f70 hh (fun _ => br_t rfl (qw_distance 2 64 (by decide) (qw_af_lt k) hC2 j1 (by decide) (fun _ => br_t (by decide) ?_))))
  refine qw_structures 2 (fun _ => true) (by decide) (qw_af_lt k) hC2 (fun j hj => ⟨fun _ => rfl, fun _ => qw_q64 (j2 j hj)⟩) (fun _ => br_t (congrArg nI qw_cn1) (qw_ones 2 (by decide) (qw_af_lt k) hC2 (br_t rfl ?_)))
  exact qw_degree 2 1 (by decide) (qw_af_lt k) hC2 j3 (by decide) (fun d hd1 _ => pk_lt 1 d (fun z => absurd z (by omega)) (fun _ => qw_557 ht h1 h4 hk hA2 hB2 H))
theorem qw_399 {post : Int32 → St0 → Prop} {mc ms kc ks : Nat} {a1 : Nat → Int64} {a3 : Nat → Int32} {z0 z1 : Int32} {t p a b c : Nat} (ht : t < 6) (h1 : 1 ≤ p) (h4 : p < 4) (ha : a < 64) (hb : b < 64) (hc : c < 64) (hA : a1 0 = lN (qw_tb t p)) (hz : z1 = z0) (H : post 1 ()) : wL_lawOf_399 post mc ms (nI a) (nI b) (nI c) (nI (qw_us t p)) (nI (qw_hi p)) z0 z1 kc ks a1 qw_low a3 := by
  obtain ⟨hu, hv, _⟩ := qw_KU t ht p h4
  have e := (qw_F0 ht h1 h4 hc).2.1
  have hl : c &&& qw_us t p < 64 := Nat.and_lt_two_pow (n := 6) c hu
  unfold wL_lawOf_399
  refine br_t hz (qw_autoc 0 c (by decide) hc hv hA (fun a => pk_eq (c &&& qw_us t p) 0 (fun z => ?_) (fun z => ?_) (qw_na _ _)))
  · unfold wL_lawOf_423
    rw [e, if_pos z]
    exact br_t (by decide) (qw_431 ht h1 h4 ha hb hA H)
  · unfold wL_lawOf_423
    rw [e, if_neg z]
    exact br_t (by decide) (qw_431 ht h1 h4 ha hb hA H)
theorem qw_306 {post : Int32 → St0 → Prop} {mc ms kc ks : Nat} {a1 : Nat → Int64} {a3 : Nat → Int32} {z0 z1 : Int32} {t p a b c : Nat} (ht : t < 6) (h1 : 1 ≤ p) (h4 : p < 4) (ha : a < 64) (hb : b < 64) (hc : c < 64) (hA : a1 0 = lN (qw_tb t p)) (hz : z1 = z0) (H : post 1 ()) : wL_lawOf_306 post mc ms (nI p) (nI a) (nI b) (nI c) (nI (qw_us t p)) (nI (qw_od c t p)) (nI (qw_hi p)) (nI (qw_wd p)) z0 z1 kc ks a1 qw_low a3 := by
  obtain ⟨hu, hv, hV⟩ := qw_KU t ht p h4
  obtain ⟨_, _, f3, _, _, _, f7⟩ := qw_F1 (k := 0) ht h1 h4 (by decide)
  rw [qw_af0, Nat.xor_zero] at f3 f7
  obtain ⟨d1, u, hu2, d2, d3⟩ := qw_d2_le f3
  obtain ⟨i1, i2, i3, _⟩ := qw_KI t ht p h4 h1
  have hh := @qw_hi_le p
  unfold wL_lawOf_306
  refine br_t hz (qw_distance 0 (qw_hi p) (by decide) hv hA f7 hh (fun _ => ⟨by decide, br_t rfl ?_⟩))
  refine qw_nearest 0 (qw_hi p) (by decide) hv hA f7 hh (qw_S0 ht h1 h4) (fun _ => br_t rfl ?_)
  refine qw_degree 0 2 (by decide) hv hA d1 (by decide) (fun d hd1 hd2 => br_t ?_ ?_)
  · have := hd2 u hu2 d2
    have e : d = 2 := by omega
    rw [e]
    rfl
  refine qw_structures 0 (fun c => Nat.beq (c &&& qw_us t p) 0) (by decide) hv hA (fun j hj => qw_q0 (qw_F0 ht h1 h4 hj).2.1) (fun _ => br_t (congrArg nI (qw_KN t ht p h4 h1)) ?_)
  refine qw_variables 0 (by decide) hv hA (br_t (congrArg nI hV) ?_)
  refine qw_immunity 0 (qw_p1 t 0) (by decide) hv hA i2 i1 i3 (qw_Sx ht h1 h4) (fun _ => br_t rfl ?_)
  refine qw_value 0 c (by decide) hc hv hA (br_t (congrArg nI (qw_F0 ht h1 h4 hc).2.2) ?_)
  refine qw_form 0 (qw_us t p) (by decide) hu hv hA ?_
  rw [qw_KF t ht p h4 h1]
  refine pk_eq p 1 (fun z => qw_399 ht h1 h4 ha hb hc hA ?_ H) (fun z => qw_399 ht h1 h4 ha hb hc hA ?_ H)
  · rw [if_pos z]
    rfl
  · rw [if_neg z]
    rfl
theorem qw_252 {post : Int32 → St0 → Prop} {mc ms kc ks : Nat} {a1 : Nat → Int64} {a3 : Nat → Int32} {t p a b c : Nat} (ht : t < 6) (h1 : 1 ≤ p) (h4 : p < 4) (ha : a < 64) (hb : b < 64) (hc : c < 64) (hA : a1 0 = lN (qw_tb t p)) (H : post 1 ()) : wL_lawOf_252 post mc ms (nI p) (nI a) (nI b) (nI c) (nI (qw_us t p)) (nI (qw_od c t p)) 1 (nI (qw_hi p)) (nI (qw_wd p)) kc ks a1 qw_low a3 := by
  obtain ⟨hu, hv, hV⟩ := qw_KU t ht p h4
  have e := (qw_F0 ht h1 h4 hc).1
  have ho := qw_od2 ht h1 h4 hc
  have eh : Int32.ofInt (qw_hi p : Int) = nI (qw_hi p) := Int32.ofInt_eq_ofNat
  unfold wL_lawOf_252
  refine ek_if (qw_in c hc _ hu) (fun z => ?_) (fun z => ?_)
  · unfold wL_lawOf_269
    refine br_f (by decide) (qw_spectrum 0 c (by decide) hc hv hA (fun _ => br_f (by decide) ?_))
    rw [e, if_pos z]
    refine pk_eq (qw_od c t p) 1 (fun y => qw_306 ht h1 h4 ha hb hc hA ?_ H) (fun y => qw_306 ht h1 h4 ha hb hc hA ?_ H)
    · rw [if_pos y, Int32.ofInt_neg, eh]
    · rw [if_neg y, eh]
  · unfold wL_lawOf_269
    refine br_f (by decide) (qw_spectrum 0 c (by decide) hc hv hA (fun _ => br_t rfl ?_))
    rw [e, if_neg z]
    exact qw_306 ht h1 h4 ha hb hc hA (by decide) H
theorem qw_228 {post : Int32 → St0 → Prop} {mc ms kc ks : Nat} {a1 : Nat → Int64} {a3 : Nat → Int32} {t p a b c : Nat} {z0 : Int32} (ht : t < 6) (h1 : 1 ≤ p) (h4 : p < 4) (ha : a < 64) (hb : b < 64) (hc : c < 64) (hA : a1 0 = lN (qw_tb t p)) (hz : z0 = nI (qw_hi p)) (H : post 1 ()) : wL_lawOf_228 post mc ms (nI p) (nI a) (nI b) (nI c) (nI (qw_us t p)) (nI (qw_od c t p)) 1 z0 kc ks a1 qw_low a3 := by
  subst hz
  have g := qw_252 (post := post) (mc := mc) (ms := ms) (kc := kc) (ks := ks) (a3 := a3) ht h1 h4 ha hb hc hA H
  unfold wL_lawOf_228
  rcases qw_hi_v h1 h4 with ⟨q, _, w⟩ | ⟨q, _, w⟩ | ⟨q, _, w⟩
  · rw [w] at g
    exact br_t (congrArg nI q) g
  · rw [w] at g
    exact pk_eq p 1 (fun z => absurd z (by omega)) (fun _ => br_t (congrArg nI q) g)
  · rw [w] at g
    exact pk_eq p 1 (fun z => absurd z (by omega)) (fun _ => pk_eq p 2 (fun z => absurd z (by omega)) (fun _ => g))
end
section
/-! ===== the law's first loop, and the top ===== -/
theorem qw_place {post : Int32 → Prop} {u : St0} {q : Int32} (i : Nat) {t : Nat} (hi : i < 6) (ht : t < 6) (H : post (nI (qw_pl t i))) (hq : q = nI i := by rfl) : wpL_place post u q (nI t) := by
  subst hq
  unfold wpL_place
  refine ⟨by decide, ?_⟩
  rw [nI_add, show (6 : Int32) = nI 6 from rfl, pk_rem (by omega) (by decide) (by decide)]
  exact H
theorem qw_164b {post : Int32 → St0 → Prop} {mc ms kc ks : Nat} {J : Int32 → Int32 → Int32 → Int32 → (Nat → Int64) → (Nat → Int64) → (Nat → Int32) → Prop} {x4 x6 x7 x9 x11 : Int32} {a1 a2 : Nat → Int64} {a3 : Nat → Int32} {p c o i y z : Nat} (hi : i < p) (h4 : p < 4) (hy : c &&& y < 2 ^ 31) (hz : c &&& z < 2 ^ 31)
    (H : J x9 (nI (if c &&& y = 0 then o else if c &&& z = 0 then o else o ^^^ 1)) x11 (nI (i + 1)) a1 a2 a3) : wL_lawOf_164 post mc ms J x4 (nI p) x6 x7 (nI c) x9 (nI o) x11 (nI i) (nI y) (nI z) kc ks a1 a2 a3 := by
  unfold wL_lawOf_164
  refine pk_le p i (fun z => absurd z (by omega)) (fun _ => pk_eq (c &&& y) 0 (fun g => nm_r (nI_1 i) ?_) (fun g => pk_eq (c &&& z) 0 (fun g2 => nm_r (nI_1 i) ?_) (fun g2 => nm_r (e' := nI (o ^^^ 1)) (qw_nx o 1) (nm_r (nI_1 i) ?_)) (qw_na _ _) (by rfl) hz) (qw_na _ _) (by rfl) hy)
  · rw [if_pos g] at H
    exact H
  · rw [if_neg g, if_pos g2] at H
    exact H
  · rw [if_neg g, if_neg g2] at H
    exact H
theorem qw_61 {post : Int32 → St0 → Prop} {mc ms kc ks : Nat} {a1 : Nat → Int64} {a3 : Nat → Int32} {t p a b c : Nat} (ht : t < 6) (h1 : 1 ≤ p) (h4 : p < 4) (ha : a < 64) (hb : b < 64) (hc : c < 64) (h0 : a1 0 = lN 0) (H : post 1 ()) : ∃ n, wL_lawOf_61 post mc ms (nI t) (nI p) (nI a) (nI b) (nI c) kc ks n 0 0 1 0 a1 qw_low a3 := by
  refine pk_loop (fun n i s => wL_lawOf_61 post mc ms (nI t) (nI p) (nI a) (nI b) (nI c) kc ks n s.1 s.2.1 1 (nI i) s.2.2.1 qw_low s.2.2.2) (fun i (s : Int32 × Int32 × (Nat → Int64) × (Nat → Int32)) => s.1 = nI (qw_us t (min i p)) ∧ s.2.1 = nI (qw_od c t (min i p)) ∧ s.2.2.1 0 = lN (qw_tb t (min i p))) 3 0 (0, 0, a1, a3) (by omega) ⟨by rw [Nat.zero_min]; rfl, by rw [Nat.zero_min]; rfl, by rw [Nat.zero_min]; exact h0⟩ (fun n s hs => ?_) (fun n i s hi hs hw => ?_)
  · obtain ⟨x9, x10, b1, b3⟩ := s
    obtain ⟨e1, e2, e3⟩ := hs
    rw [show min 3 p = p by omega] at e1 e2 e3
    have e1 : x9 = nI (qw_us t p) := e1
    have e2 : x10 = nI (qw_od c t p) := e2
    have e3 : b1 0 = lN (qw_tb t p) := e3
    subst e1 e2
    refine pk_le 3 3 (fun _ => ?_) (fun z => absurd z (by omega))
    rcases qw_hi_v h1 h4 with ⟨q, w, _⟩ | ⟨q, w, _⟩ | ⟨q, w, _⟩
    · exact br_t (congrArg nI q) (qw_228 ht h1 h4 ha hb hc e3 (by rw [w]; rfl) H)
    · exact pk_eq p 1 (fun z => absurd z (by omega)) (fun _ => br_t (congrArg nI q) (qw_228 ht h1 h4 ha hb hc e3 (by rw [w]; rfl) H))
    · exact pk_eq p 1 (fun z => absurd z (by omega)) (fun _ => pk_eq p 2 (fun z => absurd z (by omega)) (fun _ => qw_228 ht h1 h4 ha hb hc e3 (by rw [w]; rfl) H))
  · obtain ⟨x9, x10, b1, b3⟩ := s
    obtain ⟨e1, e2, e3⟩ := hs
    obtain ⟨t1, t2, t3, t4⟩ := qw_KT t ht i hi
    refine pk_le 3 i (fun z => absurd z (by omega)) (fun _ => qw_place (2 * i) (by omega) ht (nm_r (e' := nI (qw_p1 t i)) (qw_sh1 _ t3) (qw_place (2 * i + 1) (by omega) ht (nm_r (e' := nI (qw_p2 t i)) (qw_sh1 _ t4) ?_) ?_)) ?_)
    rotate_left
    · show 2 * nI i + 1 = _
      rw [show (2 : Int32) = nI 2 from rfl, pk_mul, nI_1]
    · exact pk_mul 2 i
    · by_cases g : p ≤ i
      · refine pk_le p i (fun _ => ?_) (fun z => absurd z (by omega))
        unfold wL_lawOf_164
        refine pk_le p i (fun _ => nm_r (nI_1 i) (hw (x9, x10, b1, b3) ?_)) (fun z => absurd z (by omega))
        rw [show min (i + 1) p = min i p by omega]
        exact ⟨e1, e2, e3⟩
      · refine pk_le p i (fun z => absurd z (by omega)) (fun _ => ?_)
        rw [show min i p = i by omega] at e1 e2 e3
        have e1 : x9 = nI (qw_us t i) := e1
        have e2 : x10 = nI (qw_od c t i) := e2
        have e3 : b1 0 = lN (qw_tb t i) := e3
        subst e1 e2
        have hv : qw_tb t i < 2 ^ 64 := (qw_KU t ht i (by omega)).2.1
        have hn : vp_updL b1 0 (lN (qw_tb t (i + 1))) 0 = lN (qw_tb t (i + 1)) := pk_uLs
        have m1 : c &&& qw_p1 t i < 2 ^ 31 := Nat.lt_of_le_of_lt Nat.and_le_left (by omega)
        have m2 : c &&& qw_p2 t i < 2 ^ 31 := Nat.lt_of_le_of_lt Nat.and_le_left (by omega)
        have main : ∀ z0 : Int32, nI (qw_on (qw_tb t (i + 1))) = z0 → wL_lawOf_154 post mc ms (wL_lawOf_61 post mc ms (nI t) (nI p) (nI a) (nI b) (nI c) kc ks n) (nI t) (nI p) (nI a) (nI b) (nI c) (nI (qw_us t (i + 1))) (nI (qw_od c t i)) (nI i) (nI (qw_p1 t i)) (nI (qw_p2 t i)) z0 (nI (qw_on (qw_tb t (i + 1)))) kc ks (vp_updL b1 0 (lN (qw_tb t (i + 1)))) qw_low b3 := by
          intro z0 hz
          unfold wL_lawOf_154
          refine br_t hz ?_
          unfold wL_lawOf_162
          refine qw_164b (by omega) h4 m1 m2 (hw (nI (qw_us t (i + 1)), nI (qw_od c t (i + 1)), vp_updL b1 0 (lN (qw_tb t (i + 1))), b3) ?_)
          rw [show min (i + 1) p = i + 1 by omega]
          exact ⟨rfl, rfl, hn⟩
        refine qw_turn 0 (qw_p1 t i ||| qw_p2 t i) (by decide) t1 hv e3 (nm_r (e' := nI (qw_us t (i + 1))) ?_ (br_f (by decide) ?_)) (by rfl) (qw_no _ _)
        · rw [qw_no, qw_no]
          rfl
        · refine pk_eq i 0 (fun z => main 16 ?_) (fun z => pk_eq i 1 (fun z2 => main 24 ?_) (fun z2 => main 28 ?_))
          · rw [t2, if_pos z]
            rfl
          · rw [t2, if_neg z, if_pos z2]
            rfl
          · rw [t2, if_neg z, if_neg z2]
            rfl
theorem qw_lawOf {post : Int32 → St0 → Prop} (x y z : Int32) (H : post 1 ()) : wpL_lawOf post 10 200 () x y z := by
  obtain ⟨i, hi, ei⟩ := pk_andE x (m := 7) 3 (by decide)
  obtain ⟨j, hj, ej⟩ := pk_andE (x >>> ((3 : Int32) &&& 31)) (m := 3) 2 (by decide)
  obtain ⟨a, ha, ea⟩ := pk_andE y (m := 63) 6 (by decide)
  obtain ⟨b, hb, eb⟩ := pk_andE (y >>> ((6 : Int32) &&& 31)) (m := 63) 6 (by decide)
  obtain ⟨c, hc, ec⟩ := pk_andE z (m := 63) 6 (by decide)
  have r1 : (x &&& 7) - (x &&& 7) / 6 * 6 = nI (i % 6) := by
    rw [ei]
    exact pk_rem (d := 6) (by omega) (by decide) (by decide)
  have r2 : 1 + (((x >>> ((3 : Int32) &&& 31)) &&& 3) - ((x >>> ((3 : Int32) &&& 31)) &&& 3) / 3 * 3) = nI (1 + j % 3) := by
    rw [ej, show nI j - nI j / 3 * 3 = nI (j % 3) from pk_rem (d := 3) (by omega) (by decide) (by decide)]
    exact nI_add 1 _
  unfold wpL_lawOf
  refine ⟨by decide, by decide, 5, 100, by decide, by decide, ?_⟩
  unfold wpX_init
  refine ⟨by decide, by decide, by decide, by decide, by decide, by decide, nm_e (nm_e (nm_e (nm_e (nm_e (nm_e ?_)))))⟩
  refine ⟨by decide, nm_r r1 ⟨by decide, nm_r r2 (nm_r ea (nm_r eb (nm_r ec ?_)))⟩⟩
  exact qw_61 (Nat.mod_lt _ (by decide)) (by omega) (by omega) ha hb hc rfl H
theorem i_vc (xs : Nat → Int32) (L : Nat) (hL : L ≤ 3) : wpL_law (fun r => r = 1) L xs := by
  have cell : ∀ (post : Int32 → Prop) (k : Nat) (q : Int32), k < 3 → q = nI k → (∀ v, post v) → wpL_cellAt post L xs () q := by
    intro post k q hk hq H
    unfold wpL_cellAt
    exact pk_le L k (fun _ => H _) (fun g => ⟨pk_in k L g hq, H _⟩) (by rfl) hq
  unfold wpL_law
  exact cell _ 0 _ (by decide) rfl (fun r1 => cell _ 1 _ (by decide) rfl (fun r2 => cell _ 2 _ (by decide) rfl (fun r3 => ⟨10, 200, by decide, by decide, qw_lawOf r1 r2 r3 rfl⟩)))
end
