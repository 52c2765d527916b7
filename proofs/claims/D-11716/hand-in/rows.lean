section
/-! pure rows: packed arrays (digits of a number), the abstract machine's words, what they stand for -/
/-- digit i of x to the base B -/
def zz_dg (B x i : Nat) : Nat := Nat.mod (Nat.div x (Nat.pow B i)) B
/-- digit i of x replaced -/
def zz_ds (B x i v : Nat) : Nat := Nat.add (Nat.sub x (Nat.mul (zz_dg B x i) (Nat.pow B i))) (Nat.mul (Nat.mod v B) (Nat.pow B i))
theorem zz_dg_e (B x i : Nat) : zz_dg B x i = x / B ^ i % B := rfl
theorem zz_ds_e (B x i v : Nat) : zz_ds B x i v = x - zz_dg B x i * B ^ i + v % B * B ^ i := rfl
theorem zz_dg_0 (B x : Nat) : zz_dg B x 0 = x % B := by
  rw [zz_dg_e, Nat.pow_zero, Nat.div_one]
theorem zz_dg_s (B x i : Nat) : zz_dg B x (i + 1) = zz_dg B (x / B) i := by
  rw [zz_dg_e, zz_dg_e, Nat.div_div_eq_div_mul, Nat.pow_succ, Nat.mul_comm]
theorem zz_dg_lt {B : Nat} (hB : 0 < B) (x i : Nat) : zz_dg B x i < B := Nat.mod_lt _ hB
theorem zz_dg_le (B x i : Nat) : zz_dg B x i * B ^ i ≤ x := by
  rw [zz_dg_e]
  exact Nat.le_trans (Nat.mul_le_mul_right _ (Nat.mod_le _ _)) (Nat.div_mul_le_self _ _)
theorem zz_ar1 (B y r Q V : Nat) (h : Q ≤ y) : B * y + r - Q * B + V * B = r + B * (y - Q + V) := by
  obtain ⟨z, rfl⟩ : ∃ z, y = Q + z := ⟨y - Q, by omega⟩
  rw [Nat.add_sub_cancel_left, Nat.mul_add, Nat.mul_add, Nat.mul_comm Q B, Nat.mul_comm V B]
  omega
theorem zz_ds_0 (B x v : Nat) : zz_ds B x 0 v = v % B + B * (x / B) := by
  rw [zz_ds_e, zz_dg_0, Nat.pow_zero, Nat.mul_one, Nat.mul_one]
  have := Nat.div_add_mod x B
  omega
theorem zz_ds_s (B x i v : Nat) : zz_ds B x (i + 1) v = x % B + B * zz_ds B (x / B) i v := by
  rw [zz_ds_e, zz_ds_e, zz_dg_s, Nat.pow_succ, ← Nat.mul_assoc, ← Nat.mul_assoc]
  have h := zz_ar1 B (x / B) (x % B) (zz_dg B (x / B) i * B ^ i) (v % B * B ^ i) (zz_dg_le B (x / B) i)
  rw [Nat.div_add_mod x B] at h
  exact h
theorem zz_md {B a y : Nat} (ha : a < B) : (a + B * y) % B = a := by
  rw [Nat.add_mul_mod_self_left, Nat.mod_eq_of_lt ha]
theorem zz_dv {B a y : Nat} (ha : a < B) : (a + B * y) / B = y := by
  rw [Nat.add_mul_div_left _ _ (by omega), Nat.div_eq_of_lt ha, Nat.zero_add]
theorem zz_dg_ds {B : Nat} (hB : 0 < B) (v : Nat) : ∀ (i x k : Nat), zz_dg B (zz_ds B x i v) k = if k = i then v % B else zz_dg B x k := by
  intro i
  induction i with
  | zero =>
    intro x k
    rw [zz_ds_0]
    cases k with
    | zero => rw [zz_dg_0, zz_md (Nat.mod_lt _ hB), if_pos rfl]
    | succ k => rw [zz_dg_s, zz_dv (Nat.mod_lt _ hB), if_neg (by omega), zz_dg_s]
  | succ i ih =>
    intro x k
    rw [zz_ds_s]
    cases k with
    | zero => rw [zz_dg_0, zz_md (Nat.mod_lt _ hB), if_neg (by omega), zz_dg_0]
    | succ k =>
      rw [zz_dg_s, zz_dv (Nat.mod_lt _ hB), ih, zz_dg_s]
      by_cases e : k = i
      · rw [if_pos e, if_pos (by omega)]
      · rw [if_neg e, if_neg (by omega)]
/-! an array that a number stands for: place k holds F of digit k -/
def zz_c (F : Nat → Int32) (B x : Nat) : Nat → Int32 := fun k => F (zz_dg B x k)
theorem zz_up {F : Nat → Int32} {B x i v : Nat} {e : Int32} (hB : 0 < B) (he : e = F (v % B)) : upd (zz_c F B x) i e = zz_c F B (zz_ds B x i v) := by
  funext k
  show (if k = i then e else F (zz_dg B x k)) = F (zz_dg B (zz_ds B x i v) k)
  rw [zz_dg_ds hB]
  by_cases h : k = i
  · rw [if_pos h, if_pos h, he]
  · rw [if_neg h, if_neg h]
theorem zz_rd {F : Nat → Int32} {B x i : Nat} (hi : i < 2 ^ 31) : zz_c F B x (nI i).toNatClampNeg = F (zz_dg B x i) := by
  rw [nI_clamp hi]
  rfl
theorem zz_us {f : Nat → Int32} {i : Nat} : upd f i (f i) = f := by
  funext k
  show (if k = i then f i else f k) = f k
  by_cases h : k = i
  · rw [if_pos h, h]
  · rw [if_neg h]
/-! what a digit stands for -/
def zz_o (c : Nat) : Nat := zz_dg 16 36344692752 c
def zz_fO (c : Nat) : Int32 := nI (zz_o c)
def zz_fA (c : Nat) : Int32 := nI (Nat.mod c 8)
def zz_fT (c : Nat) : Int32 := nI (Nat.mod c 4)
def zz_fR (c : Nat) : Int32 := if c < 6 then nI c else -1
def zz_fD (d : Int32) (c : Nat) : Int32 := nI c + nI (c / 4294967296) * d
def zz_add (v w : Nat) : Nat := Nat.add (Nat.mod (Nat.add v w) 4294967296) (Nat.mul 4294967296 (Nat.add (Nat.div v 4294967296) (Nat.div w 4294967296)))
def zz_st (n : Nat) : Int32 := if n = 1 then 1 else 2
def zz_B (n : Nat) : Int32 := if n = 0 then 0 else 1
def zz_u (n : Nat) : Nat := Nat.mod n 8
def zz_m6 (n : Nat) : Nat := Nat.mod n 6
def zz_ix (f k : Nat) : Nat := Nat.mod (Nat.add f k) 6
abbrev zz_Z : Nat → Int32 := fun _ => 0
/-! numbers -/
theorem zz_nI {a b : Nat} (h : a % 4294967296 = b % 4294967296) : nI a = nI b := by
  apply Int32.toBitVec_inj.mp
  apply BitVec.eq_of_toNat_eq
  exact h
theorem zz_nIe {a b : Nat} (ha : a < 4294967296) (hb : b < 4294967296) : nI a = nI b ↔ a = b := by
  constructor
  · intro h
    have h2 := congrArg (fun x : Int32 => x.toBitVec.toNat) h
    rw [← pk_tn (n := a) ha, ← pk_tn (n := b) hb]
    exact h2
  · exact fun h => congrArg nI h
theorem zz_fD_w (d : Int32) (v : Nat) : zz_fD d (v % 18446744073709551616) = zz_fD d v := by
  unfold zz_fD
  rw [zz_nI (a := v % 18446744073709551616) (b := v) (by omega), zz_nI (a := v % 18446744073709551616 / 4294967296) (b := v / 4294967296) (by omega)]
theorem zz_add_h (v w : Nat) : zz_add v w / 4294967296 = v / 4294967296 + w / 4294967296 := by
  show ((v + w) % 4294967296 + 4294967296 * (v / 4294967296 + w / 4294967296)) / 4294967296 = _
  omega
theorem zz_add_l (v w : Nat) : zz_add v w % 4294967296 = (v + w) % 4294967296 := by
  show ((v + w) % 4294967296 + 4294967296 * (v / 4294967296 + w / 4294967296)) % 4294967296 = _
  omega
theorem zz_fD_a (d : Int32) (v w : Nat) : zz_fD d (zz_add v w) = zz_fD d v + zz_fD d w := by
  unfold zz_fD
  rw [zz_add_h, zz_nI (zz_add_l v w), ← nI_add, ← nI_add]
  grind
theorem zz_fD_s (d : Int32) {c : Nat} (h : c < 4294967296) : zz_fD d c = nI c := by
  unfold zz_fD
  rw [Nat.div_eq_of_lt h, nI_0, Int32.zero_mul, Int32.add_zero]
theorem zz_fD_c (d : Int32) (k : Nat) : zz_fD d (4294967296 * k) = nI k * d := by
  unfold zz_fD
  rw [Nat.mul_div_cancel_left _ (by omega), zz_nI (a := 4294967296 * k) (b := 0) (by omega), nI_0, Int32.zero_add]
theorem zz_u_lt (n : Nat) : zz_u n < 8 := Nat.mod_lt _ (by decide)
theorem zz_m6_lt (n : Nat) : zz_m6 n < 6 := Nat.mod_lt _ (by decide)
theorem zz_ix_lt (f k : Nat) : zz_ix f k < 6 := Nat.mod_lt _ (by decide)
theorem zz_ix_e (f k : Nat) : zz_ix f k = (f + k) % 6 := rfl
theorem zz_m6_e (f : Nat) : zz_m6 f = f % 6 := rfl
theorem zz_u_e (n : Nat) : zz_u n = n % 8 := rfl
theorem zz_u_u {n : Nat} (h : n < 8) : zz_u n = n := Nat.mod_eq_of_lt h
theorem zz_m6_m {n : Nat} (h : n < 6) : zz_m6 n = n := Nat.mod_eq_of_lt h
/-- the ring's place k from the first on, as the code reckons it -/
theorem zz_rem (f k : Nat) (hk : k < 8) : (nI (zz_m6 f) + nI k) - (nI (zz_m6 f) + nI k) / 6 * 6 = nI (zz_ix f k) := by
  have h := zz_m6_lt f
  rw [nI_add]
  refine (pk_rem (d := 6) (by omega) (by omega) (by omega)).trans (congrArg nI ?_)
  rw [zz_m6_e, zz_ix_e]
  omega
theorem zz_d16 (x i : Nat) : zz_dg 16 x i < 16 := zz_dg_lt (by decide) x i
theorem zz_oC : ∀ c, c < 16 → zz_o c = 0 ∨ zz_o c = 1 ∨ zz_o c = 5 ∨ zz_o c = 6 ∨ zz_o c = 7 ∨ zz_o c = 8 := by decide +kernel
/-! branches: an abstract test, and the code's -/
noncomputable def zz_i (b T F : Bool) : Bool := @Bool.rec (fun _ => Bool) F T b
noncomputable def zz_f (n : Nat) (K : Nat → Bool) : Bool := @Nat.rec (fun _ => Bool) (K 0) (fun m _ => K (Nat.succ m)) n
theorem zz_fe {n : Nat} {K : Nat → Bool} (H : zz_f n K = true) : K n = true := by
  cases n with
  | zero => exact H
  | succ n => exact H
theorem zz_fb {P : Prop} {n : Nat} {K : Nat → Bool} (H : zz_f n K = true) (f : K n = true → P) : P := f (zz_fe H)
theorem zz_br {c A B : Prop} {p T F : Bool} (H : zz_i p T F = true) (hc : c ↔ p = true) (f : p = true → T = true → A) (g : p = false → F = true → B) : (c → A) ∧ (¬ c → B) := by
  cases p with
  | true => exact ⟨fun _ => f rfl H, fun z => absurd (hc.mpr rfl) z⟩
  | false => exact ⟨fun z => absurd (hc.mp z) (by decide), fun _ => g rfl H⟩
/-- the same where the code asks for the contrary -/
theorem zz_bn {c A B : Prop} {p T F : Bool} (H : zz_i p T F = true) (hc : c ↔ p = false) (f : p = false → F = true → A) (g : p = true → T = true → B) : (c → A) ∧ (¬ c → B) := by
  cases p with
  | false => exact ⟨fun _ => f rfl H, fun z => absurd (hc.mpr rfl) z⟩
  | true => exact ⟨fun z => absurd (hc.mp z) (by decide), fun _ => g rfl H⟩
theorem zz_req {p T : Bool} (H : zz_i p T false = true) : p = true ∧ T = true := by
  cases p with
  | true => exact ⟨rfl, H⟩
  | false => exact absurd H Bool.false_ne_true
theorem zz_cs {P : Prop} {p T F : Bool} (H : zz_i p T F = true) (f : p = true → T = true → P) (g : p = false → F = true → P) : P := by
  cases p with
  | true => exact f rfl H
  | false => exact g rfl H
theorem zz_be {a b : Nat} (h : Nat.beq a b = true) : a = b := Nat.eq_of_beq_eq_true h
theorem zz_bne {a b : Nat} (h : Nat.beq a b = false) : a ≠ b := Nat.ne_of_beq_eq_false h
theorem zz_beI {a b : Nat} : Nat.beq a b = true ↔ a = b := ⟨Nat.eq_of_beq_eq_true, fun h => by rw [h]; exact Nat.beq_refl b⟩
theorem zz_bleI {a b : Nat} : Nat.ble a b = true ↔ a ≤ b := ⟨Nat.le_of_ble_eq_true, Nat.ble_eq_true_of_le⟩
theorem zz_nle {a b : Nat} (h : Nat.ble a b = false) : b < a := by
  rcases Nat.lt_or_ge b a with z | z
  · exact z
  · rw [Nat.ble_eq_true_of_le z] at h
    exact absurd h (by decide)
theorem zz_bf {a b : Nat} (h : a ≠ b) : Nat.beq a b = false := by
  cases e : Nat.beq a b with
  | false => rfl
  | true => exact absurd (zz_be e) h
/-- the code's equality of small numbers -/
theorem zz_cE {x y : Int32} {a b : Nat} (hx : x = nI a) (hy : y = nI b) (ha : a < 2 ^ 31) (hb : b < 2 ^ 31) : x = y ↔ Nat.beq a b = true := by
  rw [hx, hy, nI_eq ha hb, zz_beI]
theorem zz_cL {x y : Int32} {a b : Nat} (hx : x = nI a) (hy : y = nI b) (ha : a < 2 ^ 31) (hb : b < 2 ^ 31) : x ≤ y ↔ Nat.ble a b = true := by
  rw [hx, hy, nI_leI ha hb, zz_bleI]
/-- a place of the ring, or none -/
theorem zz_fR_e {c i : Nat} (hi : i < 6) : zz_fR c = nI i ↔ Nat.beq c i = true := by
  rw [zz_beI]
  unfold zz_fR
  by_cases h : c < 6
  · rw [if_pos h]
    exact nI_eq (by omega) (by omega)
  · rw [if_neg h]
    constructor
    · intro e
      exact absurd (show nI i < 0 from by rw [← e]; decide) (nI_pos (by omega))
    · intro e
      omega
theorem zz_fR_le (c : Nat) : 0 ≤ zz_fR c ↔ Nat.ble 6 c = false := by
  unfold zz_fR
  by_cases h : c < 6
  · rw [if_pos h]
    refine ⟨fun _ => ?_, fun _ => nI_pos' (by omega)⟩
    cases e : Nat.ble 6 c with
    | false => rfl
    | true => exact absurd (zz_bleI.mp e) (by omega)
  · rw [if_neg h]
    refine ⟨fun z => absurd z (by decide), fun e => ?_⟩
    exact absurd (zz_nle e) h
theorem zz_fR_lt (c : Nat) : zz_fR c < 0 ↔ Nat.ble 6 c = true := by
  unfold zz_fR
  by_cases h : c < 6
  · rw [if_pos h]
    exact ⟨fun z => absurd z (nI_pos (by omega)), fun e => absurd (zz_bleI.mp e) (by omega)⟩
  · rw [if_neg h]
    exact ⟨fun _ => zz_bleI.mpr (by omega), fun _ => by decide⟩
theorem zz_fR_s {c : Nat} (h : c < 6) : zz_fR c = nI c := if_pos h
theorem zz_BI (n : Nat) : zz_B n = 0 ↔ Nat.beq n 0 = true := by
  rw [zz_beI]
  unfold zz_B
  by_cases h : n = 0
  · rw [if_pos h]
    exact ⟨fun _ => h, fun _ => rfl⟩
  · rw [if_neg h]
    exact ⟨fun z => absurd z (by decide), fun z => absurd z h⟩
theorem zz_stI (n : Nat) : zz_st n = 1 ↔ Nat.beq n 1 = true := by
  rw [zz_beI]
  unfold zz_st
  by_cases h : n = 1
  · rw [if_pos h]
    exact ⟨fun _ => h, fun _ => rfl⟩
  · rw [if_neg h]
    exact ⟨fun z => absurd z (by decide), fun z => absurd z h⟩
/-! stores -/
theorem zz_uN {x i v : Nat} {e : Int32} (hi : i < 2 ^ 31) (he : e = nI (v % 16)) : upd (zz_c nI 16 x) (nI i).toNatClampNeg e = zz_c nI 16 (zz_ds 16 x i v) := by
  rw [nI_clamp hi]
  exact zz_up (by decide) he
theorem zz_uO {x i v : Nat} {e : Int32} (hi : i < 2 ^ 31) (he : e = zz_fO (v % 16)) : upd (zz_c zz_fO 16 x) (nI i).toNatClampNeg e = zz_c zz_fO 16 (zz_ds 16 x i v) := by
  rw [nI_clamp hi]
  exact zz_up (by decide) he
theorem zz_uA {x i v : Nat} {e : Int32} (hi : i < 2 ^ 31) (he : e = zz_fA (v % 16)) : upd (zz_c zz_fA 16 x) (nI i).toNatClampNeg e = zz_c zz_fA 16 (zz_ds 16 x i v) := by
  rw [nI_clamp hi]
  exact zz_up (by decide) he
theorem zz_uT {x i v : Nat} {e : Int32} (hi : i < 2 ^ 31) (he : e = zz_fT (v % 16)) : upd (zz_c zz_fT 16 x) (nI i).toNatClampNeg e = zz_c zz_fT 16 (zz_ds 16 x i v) := by
  rw [nI_clamp hi]
  exact zz_up (by decide) he
theorem zz_uR {x i v : Nat} {e : Int32} (hi : i < 2 ^ 31) (he : e = zz_fR (v % 16)) : upd (zz_c zz_fR 16 x) (nI i).toNatClampNeg e = zz_c zz_fR 16 (zz_ds 16 x i v) := by
  rw [nI_clamp hi]
  exact zz_up (by decide) he
theorem zz_uD {d : Int32} {x i v : Nat} {e : Int32} (hi : i < 2 ^ 31) (he : e = zz_fD d v) : upd (zz_c (zz_fD d) 18446744073709551616 x) (nI i).toNatClampNeg e = zz_c (zz_fD d) 18446744073709551616 (zz_ds 18446744073709551616 x i v) := by
  rw [nI_clamp hi]
  exact zz_up (by decide) (he.trans (zz_fD_w d v).symm)
theorem zz_uZ {k : Nat} : upd zz_Z k 0 = zz_Z := zz_us
end
section
/-! the abstract machine: numbers for arrays, continuations, false where it does not know -/
/-- the object that an abstract state stands for -/
abbrev zz_C (d gb : Int32) (po st ct fa fe fi un rg ce op pl sg le rs ad gu tg lf rf lv rv mk : Nat) : St2 := (6, (nI po), (zz_st st), (nI ct), gb, (nI fa), (zz_B fe), (nI (zz_m6 fi)), (nI (zz_u un)), (zz_c nI 16 8852758), (zz_c nI 64 67649941120), (zz_c nI 16 9437189), (zz_c (zz_fD d) 18446744073709551616 rg), (zz_c (zz_fD d) 18446744073709551616 ce), (zz_c zz_fO 16 op), (zz_c nI 16 pl), (zz_c nI 16 sg), (zz_c nI 16 le), (zz_c (zz_fD d) 18446744073709551616 rs), (zz_c zz_fA 16 ad), zz_Z, (zz_c nI 16 gu), (zz_c zz_fT 16 tg), (zz_c zz_fR 16 lf), (zz_c zz_fR 16 rf), (zz_c (zz_fD d) 18446744073709551616 lv), (zz_c (zz_fD d) 18446744073709551616 rv), (zz_c zz_fR 16 mk))
noncomputable def zz_hand2 (ih : Nat → Nat → Nat → Nat → Nat → Bool) (i v j k lf rf lv rv : Nat) : Bool :=
  zz_i (Nat.beq (zz_dg 16 rf j) i)
    (zz_f (zz_ds 16 rf j 15) fun rf => zz_f (zz_ds 18446744073709551616 rv j v) fun rv => ih (Nat.succ k) lf rf lv rv)
    (ih (Nat.succ k) lf rf lv rv)
noncomputable def zz_hand (i v fi : Nat) (K : Nat → Nat → Nat → Nat → Bool) (r : Nat) : Nat → Nat → Nat → Nat → Nat → Bool :=
  @Nat.rec (fun _ => Nat → Nat → Nat → Nat → Nat → Bool) (fun _ lf rf lv rv => K lf rf lv rv)
    (fun _ ih k lf rf lv rv =>
      zz_f (zz_ix fi k) fun j =>
      zz_i (Nat.beq (zz_dg 16 lf j) i)
        (zz_f (zz_ds 16 lf j 15) fun lf => zz_f (zz_ds 18446744073709551616 lv j v) fun lv => zz_hand2 ih i v j k lf rf lv rv)
        (zz_hand2 ih i v j k lf rf lv rv)) r
theorem zz_hand_0 (i v fi : Nat) (K : Nat → Nat → Nat → Nat → Bool) (k lf rf lv rv : Nat) : zz_hand i v fi K 0 k lf rf lv rv = K lf rf lv rv := rfl
theorem zz_hand_s (i v fi : Nat) (K : Nat → Nat → Nat → Nat → Bool) (r k lf rf lv rv : Nat) : zz_hand i v fi K (r + 1) k lf rf lv rv =
      (zz_f (zz_ix fi k) fun j =>
      zz_i (Nat.beq (zz_dg 16 lf j) i)
        (zz_f (zz_ds 16 lf j 15) fun lf => zz_f (zz_ds 18446744073709551616 lv j v) fun lv => zz_hand2 (zz_hand i v fi K r) i v j k lf rf lv rv)
        (zz_hand2 (zz_hand i v fi K r) i v j k lf rf lv rv)) := rfl
noncomputable def zz_work (i op pl rs ad lv rv : Nat) (K : Nat → Nat → Bool) : Bool :=
  zz_f (zz_o (zz_dg 16 op i)) fun o =>
  zz_i (Nat.beq o 1)
    (zz_f (zz_ds 18446744073709551616 rs i (zz_add (zz_dg 18446744073709551616 lv i) (zz_dg 18446744073709551616 rv i))) fun rs => K rs ad)
    (zz_i (Nat.beq o 5)
      (zz_f (zz_dg 18446744073709551616 rv i) fun y => zz_i (Nat.ble y 2147483647) (zz_f (zz_ds 16 ad i (Nat.mod y 8)) fun ad => K rs ad) false)
      (zz_i (Nat.beq o 6)
        (zz_f (zz_dg 18446744073709551616 lv i) fun x => zz_i (Nat.ble x 4294967295)
          (zz_i (Nat.beq x 0) (K rs ad) (zz_f (zz_ds 18446744073709551616 rs i (Nat.succ (zz_dg 16 pl i))) fun rs => K rs ad)) false)
        (zz_i (Nat.ble 7 o) (K rs ad) false)))
noncomputable def zz_comp2 (ih : Nat → Nat → Nat → Nat → Nat → Nat → Nat → Nat → Nat → Nat → Bool) (fi un op pl i fr k sg le rs ad lf rf lv rv : Nat) : Bool :=
  zz_i (Nat.beq (zz_dg 16 le i) 0)
    (zz_i (Nat.beq fr 0) (ih fr (Nat.succ k) sg le rs ad lf rf lv rv)
      (zz_work i op pl rs ad lv rv fun rs ad =>
        zz_f (zz_ds 16 sg i 2) fun sg =>
        zz_f (zz_dg 18446744073709551616 rs i) fun v =>
        zz_hand i v fi (fun lf rf lv rv => ih 0 (Nat.succ k) sg le rs ad lf rf lv rv) (zz_u un) 0 lf rf lv rv))
    (ih fr (Nat.succ k) sg le rs ad lf rf lv rv)
noncomputable def zz_comp (fi un op pl : Nat) (K : Nat → Nat → Nat → Nat → Nat → Nat → Nat → Nat → Bool) (r : Nat) : Nat → Nat → Nat → Nat → Nat → Nat → Nat → Nat → Nat → Nat → Bool :=
  @Nat.rec (fun _ => Nat → Nat → Nat → Nat → Nat → Nat → Nat → Nat → Nat → Nat → Bool) (fun _ _ sg le rs ad lf rf lv rv => K sg le rs ad lf rf lv rv)
    (fun _ ih fr k sg le rs ad lf rf lv rv =>
      zz_f (zz_ix fi k) fun i =>
      zz_i (Nat.beq (zz_dg 16 sg i) 1)
        (zz_i (Nat.ble (zz_dg 16 le i) 0)
          (zz_comp2 ih fi un op pl i fr k sg le rs ad lf rf lv rv)
          (zz_f (zz_ds 16 le i (Nat.pred (zz_dg 16 le i))) fun le => zz_comp2 ih fi un op pl i fr k sg le rs ad lf rf lv rv))
        (ih fr (Nat.succ k) sg le rs ad lf rf lv rv)) r
theorem zz_comp_0 (fi un op pl : Nat) (K : Nat → Nat → Nat → Nat → Nat → Nat → Nat → Nat → Bool) (fr k sg le rs ad lf rf lv rv : Nat) : zz_comp fi un op pl K 0 fr k sg le rs ad lf rf lv rv = K sg le rs ad lf rf lv rv := rfl
theorem zz_comp_s (fi un op pl : Nat) (K : Nat → Nat → Nat → Nat → Nat → Nat → Nat → Nat → Bool) (r fr k sg le rs ad lf rf lv rv : Nat) : zz_comp fi un op pl K (r + 1) fr k sg le rs ad lf rf lv rv =
      (zz_f (zz_ix fi k) fun i =>
      zz_i (Nat.beq (zz_dg 16 sg i) 1)
        (zz_i (Nat.ble (zz_dg 16 le i) 0)
          (zz_comp2 (zz_comp fi un op pl K r) fi un op pl i fr k sg le rs ad lf rf lv rv)
          (zz_f (zz_ds 16 le i (Nat.pred (zz_dg 16 le i))) fun le => zz_comp2 (zz_comp fi un op pl K r) fi un op pl i fr k sg le rs ad lf rf lv rv))
        (zz_comp fi un op pl K r fr (Nat.succ k) sg le rs ad lf rf lv rv)) := rfl
noncomputable def zz_beg (fi lf rf : Nat) (K : Nat → Nat → Bool) (r : Nat) : Nat → Nat → Nat → Bool :=
  @Nat.rec (fun _ => Nat → Nat → Nat → Bool) (fun _ sg le => K sg le)
    (fun _ ih k sg le =>
      zz_f (zz_ix fi k) fun i =>
      zz_i (Nat.beq (zz_dg 16 sg i) 0)
        (zz_i (Nat.ble 6 (zz_dg 16 lf i))
          (zz_i (Nat.ble 6 (zz_dg 16 rf i))
            (zz_f (zz_ds 16 sg i 1) fun sg => zz_f (zz_ds 16 le i 1) fun le => ih (Nat.succ k) sg le)
            (ih (Nat.succ k) sg le))
          (ih (Nat.succ k) sg le))
        (ih (Nat.succ k) sg le)) r
theorem zz_beg_0 (fi lf rf : Nat) (K : Nat → Nat → Bool) (k sg le : Nat) : zz_beg fi lf rf K 0 k sg le = K sg le := rfl
theorem zz_beg_s (fi lf rf : Nat) (K : Nat → Nat → Bool) (r k sg le : Nat) : zz_beg fi lf rf K (r + 1) k sg le =
      (zz_f (zz_ix fi k) fun i =>
      zz_i (Nat.beq (zz_dg 16 sg i) 0)
        (zz_i (Nat.ble 6 (zz_dg 16 lf i))
          (zz_i (Nat.ble 6 (zz_dg 16 rf i))
            (zz_f (zz_ds 16 sg i 1) fun sg => zz_f (zz_ds 16 le i 1) fun le => zz_beg fi lf rf K r (Nat.succ k) sg le)
            (zz_beg fi lf rf K r (Nat.succ k) sg le))
          (zz_beg fi lf rf K r (Nat.succ k) sg le))
        (zz_beg fi lf rf K r (Nat.succ k) sg le)) := rfl
/-- an operand: register r read by the instruction at i; fr: whom it waits for, va: its value -/
noncomputable def zz_read (i r rg sg rs mk fr va : Nat) (K : Nat → Nat → Bool) : Bool :=
  zz_f (zz_dg 16 mk r) fun m =>
  zz_i (Nat.ble 6 m)
    (zz_f (zz_ds 16 fr i 15) fun fr => zz_f (zz_ds 18446744073709551616 va i (zz_dg 18446744073709551616 rg r)) fun va => K fr va)
    (zz_i (Nat.beq (zz_dg 16 sg m) 2)
      (zz_f (zz_ds 16 fr i 15) fun fr => zz_f (zz_ds 18446744073709551616 va i (zz_dg 18446744073709551616 rs m)) fun va => K fr va)
      (zz_f (zz_ds 16 fr i m) fun fr => zz_f (zz_ds 18446744073709551616 va i (zz_dg 18446744073709551616 rs m)) fun va => K fr va))
/-- the instruction at fa comes to the place i, its arrays made ready; g: the guess; K takes what changed -/
noncomputable def zz_iss2 (g i fa fe rg sg rs gu tg lf rf lv rv mk : Nat) (K : Nat → Nat → Nat → Nat → Nat → Nat → Nat → Nat → Nat → Nat → Bool) : Bool :=
  zz_i (Nat.beq fa 0)
    (zz_read i 0 rg sg rs mk lf lv fun lf lv =>
      zz_f (zz_ds 18446744073709551616 rs i 5) fun rs => zz_f (zz_ds 16 gu i g) fun gu => K g fe rs gu tg lf rf lv rv mk)
  (zz_i (Nat.beq fa 1)
    (zz_read i 2 rg sg rs mk lf lv fun lf lv => zz_read i 3 rg sg rs mk rf rv fun rf rv =>
      zz_f (zz_ds 16 tg i 2) fun tg => zz_f (zz_ds 16 mk 2 i) fun mk => K 2 fe rs gu tg lf rf lv rv mk)
  (zz_i (Nat.beq fa 2)
    (zz_read i 2 rg sg rs mk lf lv fun lf lv => zz_read i 0 rg sg rs mk rf rv fun rf rv => K 3 fe rs gu tg lf rf lv rv mk)
  (zz_i (Nat.beq fa 3)
    (zz_read i 0 rg sg rs mk lf lv fun lf lv => zz_read i 1 rg sg rs mk rf rv fun rf rv =>
      zz_f (zz_ds 16 tg i 0) fun tg => zz_f (zz_ds 16 mk 0 i) fun mk => K 4 fe rs gu tg lf rf lv rv mk)
  (zz_i (Nat.beq fa 4)
    (zz_f (zz_ds 18446744073709551616 rs i 0) fun rs => K 0 fe rs gu tg lf rf lv rv mk)
  (zz_i (Nat.beq fa 5)
    (zz_f (zz_ds 18446744073709551616 rs i 9) fun rs => K 6 0 rs gu tg lf rf lv rv mk)
    false)))))
/-- K takes: fa fe un op pl sg rs gu tg lf rf lv rv mk -/
noncomputable def zz_iss (g fa fe fi un rg op pl sg rs gu tg lf rf lv rv mk : Nat) (K : Nat → Nat → Nat → Nat → Nat → Nat → Nat → Nat → Nat → Nat → Nat → Nat → Nat → Nat → Bool) : Bool :=
  zz_f (zz_u un) fun u =>
  zz_i (Nat.ble 6 u) (K fa fe u op pl sg rs gu tg lf rf lv rv mk)
    (zz_i (Nat.beq fe 0) (K fa fe u op pl sg rs gu tg lf rf lv rv mk)
      (zz_f (zz_ix fi u) fun i =>
       zz_f (zz_ds 16 op i (zz_dg 16 8852758 fa)) fun op =>
       zz_f (zz_ds 16 pl i fa) fun pl =>
       zz_f (zz_ds 16 sg i 0) fun sg =>
       zz_f (zz_ds 16 lf i 15) fun lf =>
       zz_f (zz_ds 16 rf i 15) fun rf =>
       zz_iss2 g i fa fe rg sg rs gu tg lf rf lv rv mk fun fa fe rs gu tg lf rf lv rv mk => K fa fe (Nat.succ u) op pl sg rs gu tg lf rf lv rv mk))
/-- K takes: r po st ct fa fe fi un rg ce mk -/
noncomputable def zz_ret (po st ct fa fe fi un rg ce op pl sg rs ad gu tg lv mk : Nat) (K : Nat → Nat → Nat → Nat → Nat → Nat → Nat → Nat → Nat → Nat → Nat → Bool) : Bool :=
  zz_f (zz_u un) fun u =>
  zz_i (Nat.beq u 0) (K 0 po st ct fa fe fi u rg ce mk)
    (zz_f (zz_m6 fi) fun f =>
     zz_i (Nat.beq (zz_dg 16 sg f) 2)
      (zz_f (zz_o (zz_dg 16 op f)) fun o =>
       zz_f (Nat.succ ct) fun ct =>
       zz_f (zz_ix f 1) fun fi =>
       zz_f (Nat.pred u) fun u =>
       zz_i (Nat.beq o 1)
        (zz_f (Nat.mod (zz_dg 16 tg f) 4) fun t =>
         zz_f (zz_ds 18446744073709551616 rg t (zz_dg 18446744073709551616 rs f)) fun rg =>
         zz_f (Nat.succ (zz_dg 16 pl f)) fun po =>
         zz_i (Nat.beq (zz_dg 16 mk t) f)
          (zz_f (zz_ds 16 mk t 15) fun mk => K 1 po st ct fa fe fi u rg ce mk)
          (K 1 po st ct fa fe fi u rg ce mk))
       (zz_i (Nat.beq o 5)
        (zz_f (zz_ds 18446744073709551616 ce (Nat.mod (zz_dg 16 ad f) 8) (zz_dg 18446744073709551616 lv f)) fun ce =>
         zz_f (Nat.succ (zz_dg 16 pl f)) fun po => K 1 po st ct fa fe fi u rg ce mk)
       (zz_i (Nat.beq o 6)
        (zz_f (zz_dg 18446744073709551616 rs f) fun po =>
         zz_i (Nat.ble po 2147483647)
          (zz_i (Nat.beq po (zz_dg 16 gu f))
            (K 1 po st ct fa fe fi u rg ce mk)
            (zz_f (zz_ds 16 (zz_ds 16 (zz_ds 16 (zz_ds 16 mk 0 15) 1 15) 2 15) 3 15) fun mk => K 1 po st ct po 1 0 0 rg ce mk))
          false)
       (zz_i (Nat.beq o 7)
        (zz_f (zz_dg 18446744073709551616 rs f) fun po =>
         zz_i (Nat.ble po 2147483647) (K 1 po st ct fa fe fi u rg ce mk) false)
       (zz_i (Nat.beq o 8) (K 1 po 2 ct fa fe fi u rg ce mk) false)))))
      (K 0 po st ct fa fe fi u rg ce mk))
/-- finish with the goal gl: at most so many cycles -/
noncomputable def zz_fin (g gl : Nat) (K : Nat → Nat → Nat → Nat → Nat → Nat → Nat → Nat → Nat → Nat → Nat → Nat → Nat → Nat → Nat → Nat → Nat → Nat → Nat → Nat → Nat → Nat → Nat → Bool) (r : Nat) : Nat → Nat → Nat → Nat → Nat → Nat → Nat → Nat → Nat → Nat → Nat → Nat → Nat → Nat → Nat → Nat → Nat → Nat → Nat → Nat → Nat → Nat → Nat → Bool :=
  @Nat.rec (fun _ => Nat → Nat → Nat → Nat → Nat → Nat → Nat → Nat → Nat → Nat → Nat → Nat → Nat → Nat → Nat → Nat → Nat → Nat → Nat → Nat → Nat → Nat → Nat → Bool) (fun dn po st ct fa fe fi un rg ce op pl sg le rs ad gu tg lf rf lv rv mk => false)
    (fun _ ih dn po st ct fa fe fi un rg ce op pl sg le rs ad gu tg lf rf lv rv mk =>
      zz_i (Nat.ble gl dn) (K dn po st ct fa fe fi un rg ce op pl sg le rs ad gu tg lf rf lv rv mk)
      (zz_i (Nat.beq st 1)
        (zz_ret po st ct fa fe fi un rg ce op pl sg rs ad gu tg lv mk fun q po st ct fa fe fi un rg ce mk =>
          zz_f (Nat.add dn q) fun dn =>
          zz_i (Nat.ble gl dn) (ih dn po st ct fa fe fi un rg ce op pl sg le rs ad gu tg lf rf lv rv mk)
          (zz_i (Nat.beq st 1)
            (zz_comp fi un op pl (fun sg le rs ad lf rf lv rv =>
              zz_beg fi lf rf (fun sg le =>
                zz_iss g fa fe fi un rg op pl sg rs gu tg lf rf lv rv mk fun fa fe un op pl sg rs gu tg lf rf lv rv mk =>
                  ih dn po st ct fa fe fi un rg ce op pl sg le rs ad gu tg lf rf lv rv mk) (zz_u un) 0 sg le) (zz_u un) 1 0 sg le rs ad lf rf lv rv)
            (ih dn po st ct fa fe fi un rg ce op pl sg le rs ad gu tg lf rf lv rv mk)))
        (K dn po st ct fa fe fi un rg ce op pl sg le rs ad gu tg lf rf lv rv mk))) r
theorem zz_fin_s (g gl : Nat) (K : Nat → Nat → Nat → Nat → Nat → Nat → Nat → Nat → Nat → Nat → Nat → Nat → Nat → Nat → Nat → Nat → Nat → Nat → Nat → Nat → Nat → Nat → Nat → Bool) (r dn po st ct fa fe fi un rg ce op pl sg le rs ad gu tg lf rf lv rv mk : Nat) : zz_fin g gl K (r + 1) dn po st ct fa fe fi un rg ce op pl sg le rs ad gu tg lf rf lv rv mk =
      (zz_i (Nat.ble gl dn) (K dn po st ct fa fe fi un rg ce op pl sg le rs ad gu tg lf rf lv rv mk)
      (zz_i (Nat.beq st 1)
        (zz_ret po st ct fa fe fi un rg ce op pl sg rs ad gu tg lv mk fun q po st ct fa fe fi un rg ce mk =>
          zz_f (Nat.add dn q) fun dn =>
          zz_i (Nat.ble gl dn) (zz_fin g gl K r dn po st ct fa fe fi un rg ce op pl sg le rs ad gu tg lf rf lv rv mk)
          (zz_i (Nat.beq st 1)
            (zz_comp fi un op pl (fun sg le rs ad lf rf lv rv =>
              zz_beg fi lf rf (fun sg le =>
                zz_iss g fa fe fi un rg op pl sg rs gu tg lf rf lv rv mk fun fa fe un op pl sg rs gu tg lf rf lv rv mk =>
                  zz_fin g gl K r dn po st ct fa fe fi un rg ce op pl sg le rs ad gu tg lf rf lv rv mk) (zz_u un) 0 sg le) (zz_u un) 1 0 sg le rs ad lf rf lv rv)
            (zz_fin g gl K r dn po st ct fa fe fi un rg ce op pl sg le rs ad gu tg lf rf lv rv mk)))
        (K dn po st ct fa fe fi un rg ce op pl sg le rs ad gu tg lf rf lv rv mk))) := rfl
/-! the law's questions -/
noncomputable def zz_and (a b : Bool) : Bool := zz_i a b false
/-- what must hold after finish(n): m the loop's count, due the steps to the end -/
noncomputable def zz_q1 (m n dn po st ct rg : Nat) : Bool :=
  zz_i (Nat.ble (5 * m + 2) n)
    (zz_and (Nat.beq dn (5 * m + 2)) (Nat.beq ct (5 * m + 2)))
    (zz_and (Nat.beq dn n) (zz_and (Nat.beq ct n) (zz_and (Nat.beq st 1)
      (zz_and (Nat.beq po (bif Nat.beq n (5 * m + 1) then 5 else n % 5))
        (zz_and (Nat.beq (zz_dg 18446744073709551616 rg 2) (4294967296 * (1 + (n / 5 + (bif Nat.ble 2 (n % 5) then 1 else 0)))))
          (Nat.beq (zz_dg 18446744073709551616 rg 0) (m - n / 5 - (bif Nat.ble 4 (n % 5) then 1 else 0))))))))
/-- cell i at the end -/
def zz_cell (m i : Nat) : Nat := bif Nat.beq i 0 then (bif Nat.ble 8 m then 4294967296 * (1 + (m - 7)) else 0) else (bif Nat.ble i m then 4294967296 * (1 + (m - i + 1)) else 0)
noncomputable def zz_q2 (m d1 dn po st rg ce : Nat) : Bool :=
  zz_and (Nat.beq (d1 + dn) (5 * m + 2)) (zz_and (Nat.beq st 2) (zz_and (Nat.beq po 5)
    (zz_and (Nat.beq (zz_dg 18446744073709551616 rg 0) 0) (zz_and (Nat.beq (zz_dg 18446744073709551616 rg 1) 4294967295)
      (zz_and (Nat.beq (zz_dg 18446744073709551616 rg 2) (4294967296 * (1 + m)))
        (zz_and (Nat.beq (zz_dg 18446744073709551616 ce 0) (zz_cell m 0)) (zz_and (Nat.beq (zz_dg 18446744073709551616 ce 1) (zz_cell m 1))
        (zz_and (Nat.beq (zz_dg 18446744073709551616 ce 2) (zz_cell m 2)) (zz_and (Nat.beq (zz_dg 18446744073709551616 ce 3) (zz_cell m 3))
        (zz_and (Nat.beq (zz_dg 18446744073709551616 ce 4) (zz_cell m 4)) (zz_and (Nat.beq (zz_dg 18446744073709551616 ce 5) (zz_cell m 5))
        (zz_and (Nat.beq (zz_dg 18446744073709551616 ce 6) (zz_cell m 6)) (Nat.beq (zz_dg 18446744073709551616 ce 7) (zz_cell m 7))))))))))))))
/-- the registers at the start: m, -1, d, d -/
def zz_rg0 (m : Nat) : Nat := zz_ds 18446744073709551616 (zz_ds 18446744073709551616 (zz_ds 18446744073709551616 (zz_ds 18446744073709551616 (zz_ds 18446744073709551616 0 0 m) 1 4294967295) 2 4294967296) 3 4294967296) 3 4294967296
/-- a run: m rounds, finish(n), finish(200) -/
noncomputable def zz_run (g m n : Nat) : Bool :=
  zz_f (zz_rg0 m) fun rg =>
  zz_fin g n (fun dn po st ct fa fe fi un rg ce op pl sg le rs ad gu tg lf rf lv rv mk =>
    zz_and (zz_q1 m n dn po st ct rg)
      (zz_fin g 200 (fun d2 po st ct fa fe fi un rg ce op pl sg le rs ad gu tg lf rf lv rv mk => zz_q2 m dn d2 po st rg ce) 200 0 po st ct fa fe fi un rg ce op pl sg le rs ad gu tg lf rf lv rv mk))
    200 0 0 1 0 0 1 0 0 rg 0 0 0 0 0 0 0 0 0 0 0 0 0 65535
noncomputable def zz_runs (g m : Nat) (n : Nat) : Bool := @Nat.rec (fun _ => Bool) true (fun n ih => zz_and (zz_run g m n) ih) n
end
section
/-! hand, work, complete: the code does what the abstract machine does -/
section
variable {d gb : Int32} {po st ct fa fe fi un rg ce op pl sg le rs ad gu tg lf rf lv rv mk : Nat}
theorem zz_hand49 {post : St2 → Prop} {J2 : Int32 → (Nat → Int32) → (Nat → Int32) → (Nat → Int32) → (Nat → Int32) → (Nat → Int32) → (Nat → Int32) → (Nat → Int32) → (Nat → Int32) → (Nat → Int32) → (Nat → Int32) → (Nat → Int32) → (Nat → Int32) → (Nat → Int32) → (Nat → Int32) → (Nat → Int32) → (Nat → Int32) → (Nat → Int32) → (Nat → Int32) → (Nat → Int32) → Prop} {ih : Nat → Nat → Nat → Nat → Nat → Bool} {i j k : Nat} (hi : i < 6) (hj : j < 6)
    (hJ : ∀ lf rf lv rv, ih (k + 1) lf rf lv rv = true → J2 (nI (k + 1)) (zz_c nI 16 8852758) (zz_c nI 64 67649941120) (zz_c nI 16 9437189) (zz_c (zz_fD d) 18446744073709551616 rg) (zz_c (zz_fD d) 18446744073709551616 ce) (zz_c zz_fO 16 op) (zz_c nI 16 pl) (zz_c nI 16 sg) (zz_c nI 16 le) (zz_c (zz_fD d) 18446744073709551616 rs) (zz_c zz_fA 16 ad) zz_Z (zz_c nI 16 gu) (zz_c zz_fT 16 tg) (zz_c zz_fR 16 lf) (zz_c zz_fR 16 rf) (zz_c (zz_fD d) 18446744073709551616 lv) (zz_c (zz_fD d) 18446744073709551616 rv) (zz_c zz_fR 16 mk))
    (H : zz_hand2 ih i (zz_dg 18446744073709551616 rs i) j k lf rf lv rv = true) :
    wX_hand_49 post J2 (nI i) (nI k) (nI j) 6 (nI po) (zz_st st) (nI ct) gb (nI fa) (zz_B fe) (nI (zz_m6 fi)) (nI (zz_u un)) (zz_c nI 16 8852758) (zz_c nI 64 67649941120) (zz_c nI 16 9437189) (zz_c (zz_fD d) 18446744073709551616 rg) (zz_c (zz_fD d) 18446744073709551616 ce) (zz_c zz_fO 16 op) (zz_c nI 16 pl) (zz_c nI 16 sg) (zz_c nI 16 le) (zz_c (zz_fD d) 18446744073709551616 rs) (zz_c zz_fA 16 ad) zz_Z (zz_c nI 16 gu) (zz_c zz_fT 16 tg) (zz_c zz_fR 16 lf) (zz_c zz_fR 16 rf) (zz_c (zz_fD d) 18446744073709551616 lv) (zz_c (zz_fD d) 18446744073709551616 rv) (zz_c zz_fR 16 mk) :=
  ⟨pk_in j 6 hj, zz_br H (by rw [zz_rd (by omega)]; exact zz_fR_e hi)
    (fun _ H => ⟨pk_in j 6 hj, nm_r (zz_uR (v := 15) (by omega) (by rfl)) ⟨pk_in i 6 hi, pk_in j 6 hj,
      nm_r (zz_uD (by omega) (zz_rd (by omega))) (nm_r (nI_1 k) (zz_fb H fun H => zz_fb H fun H => hJ _ _ _ _ H))⟩⟩)
    (fun _ H => nm_r (nI_1 k) (hJ _ _ _ _ H))⟩
theorem zz_hand_l {post : St2 → Prop} {K : Nat → Nat → Nat → Nat → Bool} {i : Nat} (hi : i < 6)
    (hp : ∀ lf rf lv rv, K lf rf lv rv = true → post (zz_C d gb po st ct fa fe fi un rg ce op pl sg le rs ad gu tg lf rf lv rv mk)) :
    ∀ r k lf rf lv rv, k + r = zz_u un → zz_hand i (zz_dg 18446744073709551616 rs i) fi K r k lf rf lv rv = true →
    wX_hand_2 post (nI i) 6 (nI po) (zz_st st) (nI ct) gb (nI fa) (zz_B fe) (nI (zz_m6 fi)) (nI (zz_u un)) (r + 1) (nI k) (zz_c nI 16 8852758) (zz_c nI 64 67649941120) (zz_c nI 16 9437189) (zz_c (zz_fD d) 18446744073709551616 rg) (zz_c (zz_fD d) 18446744073709551616 ce) (zz_c zz_fO 16 op) (zz_c nI 16 pl) (zz_c nI 16 sg) (zz_c nI 16 le) (zz_c (zz_fD d) 18446744073709551616 rs) (zz_c zz_fA 16 ad) zz_Z (zz_c nI 16 gu) (zz_c zz_fT 16 tg) (zz_c zz_fR 16 lf) (zz_c zz_fR 16 rf) (zz_c (zz_fD d) 18446744073709551616 lv) (zz_c (zz_fD d) 18446744073709551616 rv) (zz_c zz_fR 16 mk) := by
  intro r
  have hu := zz_u_lt un
  induction r with
  | zero =>
    intro k lf rf lv rv hk H
    exact br_t (nI_le (by omega) (by omega)) (hp _ _ _ _ H)
  | succ r ih =>
    intro k lf rf lv rv hk H
    rw [zz_hand_s] at H
    have hj := zz_ix_lt fi k
    have hJ := fun lf rf lv rv h => ih (k + 1) lf rf lv rv (by omega) h
    refine br_f (nI_ge (by omega) (by omega)) ⟨by decide, nm_r (zz_rem fi k (by omega)) ⟨pk_in _ 6 hj, ?_⟩⟩
    have H := zz_fe H
    exact zz_br H (by rw [zz_rd (by omega)]; exact zz_fR_e hi)
      (fun _ H => ⟨pk_in _ 6 hj, nm_r (zz_uR (v := 15) (by omega) (by rfl)) ⟨pk_in i 6 hi, pk_in _ 6 hj,
        nm_r (zz_uD (by omega) (zz_rd (by omega))) (zz_fb H fun H => zz_fb H fun H => zz_hand49 hi hj hJ H)⟩⟩)
      (fun _ H => zz_hand49 hi hj hJ H)
theorem zz_hand_w {post : St2 → Prop} {K : Nat → Nat → Nat → Nat → Bool} {i : Nat} (hi : i < 6)
    (hp : ∀ lf rf lv rv, K lf rf lv rv = true → post (zz_C d gb po st ct fa fe fi un rg ce op pl sg le rs ad gu tg lf rf lv rv mk))
    (H : zz_hand i (zz_dg 18446744073709551616 rs i) fi K (zz_u un) 0 lf rf lv rv = true) : wpX_hand post (zz_C d gb po st ct fa fe fi un rg ce op pl sg le rs ad gu tg lf rf lv rv mk) (nI i) :=
  Exists.intro (zz_u un + 1) (zz_hand_l hi hp (zz_u un) 0 lf rf lv rv (by omega) H)
theorem zz_oN {i : Nat} (hi : i < 6) (b : Nat) (hb : b < 2 ^ 31) : zz_c zz_fO 16 op (nI i).toNatClampNeg = nI b ↔ Nat.beq (zz_o (zz_dg 16 op i)) b = true := by
  rw [zz_rd (by omega)]
  have h := zz_oC (zz_dg 16 op i) (zz_d16 op i)
  exact zz_cE rfl rfl (by omega) hb
theorem zz_work_w {post : St2 → Prop} {K : Nat → Nat → Bool} {i : Nat} (hi : i < 6)
    (hp : ∀ rs ad, K rs ad = true → post (zz_C d gb po st ct fa fe fi un rg ce op pl sg le rs ad gu tg lf rf lv rv mk))
    (H : zz_work i op pl rs ad lv rv K = true) : wpX_work post (zz_C d gb po st ct fa fe fi un rg ce op pl sg le rs ad gu tg lf rf lv rv mk) (nI i) := by
  have ho := zz_oC (zz_dg 16 op i) (zz_d16 op i)
  have hI := pk_in (x := nI i) i 6 hi
  have hx : zz_c zz_fO 16 op (nI i).toNatClampNeg = nI (zz_o (zz_dg 16 op i)) := zz_rd (by omega)
  have H := zz_fe H
  unfold wpX_work
  refine ⟨hI, nm_r (zz_rd (by omega)) ⟨hI, nm_r (zz_rd (by omega)) ⟨hI, nm_r hx ?_⟩⟩⟩
  have c : ∀ b, b < 2 ^ 31 → (nI (zz_o (zz_dg 16 op i)) = nI b ↔ Nat.beq (zz_o (zz_dg 16 op i)) b = true) := fun b hb => zz_cE rfl rfl (by omega) hb
  have nn : ∀ b, b < 2 ^ 31 → zz_o (zz_dg 16 op i) ≠ b → ¬ nI (zz_o (zz_dg 16 op i)) = nI b := fun b hb h z => h ((nI_eq (by omega) hb).mp z)
  refine zz_br H (c 1 (by omega)) (fun _ H => ⟨hI, nm_r (zz_uD (by omega) (zz_fD_a d _ _).symm) (zz_fb H fun H => hp _ _ H)⟩) (fun e1 H => ?_)
  refine br_f (nn 2 (by omega) (by omega)) (br_f (nn 3 (by omega) (by omega)) (br_f (nn 4 (by omega) (by omega)) ?_))
  refine zz_br H (c 5 (by omega)) (fun _ H => ?_) (fun e5 H => ?_)
  · have H := zz_fe H
    have ⟨hy, H⟩ := zz_req H
    have hy := zz_bleI.mp hy
    have ey : zz_fD d (zz_dg 18446744073709551616 rv i) = nI (zz_dg 18446744073709551616 rv i) := zz_fD_s d (by omega)
    refine br_t (by rw [ey]; exact nI_pos' (by omega)) ?_
    refine ⟨hI, nm_r zz_uZ ⟨hI, nm_r (zz_uA (v := zz_dg 18446744073709551616 rv i % 8) (by omega) ?_) (zz_fb H fun H => hp _ _ H)⟩⟩
    rw [ey]
    refine (pk_andN (by omega) 3 (by decide)).trans (congrArg nI ?_)
    show _ = (zz_dg 18446744073709551616 rv i % 8) % 16 % 8
    omega
  · refine zz_br H (c 6 (by omega)) (fun _ H => ?_) (fun e6 H => ?_)
    · have H := zz_fe H
      have ⟨hy, H⟩ := zz_req H
      have hy := zz_bleI.mp hy
      have ey : zz_fD d (zz_dg 18446744073709551616 lv i) = nI (zz_dg 18446744073709551616 lv i) := zz_fD_s d (by omega)
      refine zz_br H (by rw [ey, zz_beI]; exact zz_nIe (b := 0) (by omega) (by omega)) (fun _ H => ?_) (fun _ H => ?_)
      · exact ⟨hI, hI, nm_r zz_us (hp _ _ H)⟩
      · have h16 := zz_d16 pl i
        refine ⟨hI, hI, nm_r (zz_uD (v := zz_dg 16 pl i + 1) (by omega) ?_) (zz_fb H fun H => hp _ _ H)⟩
        rw [zz_rd (by omega), nI_1]
        exact (zz_fD_s d (by omega)).symm
    · have ⟨h7, H⟩ := zz_req H
      have h7 := zz_bleI.mp h7
      exact br_f (nn 9 (by omega) (by omega)) (hp _ _ H)
theorem zz_le1 : ∀ c, c < 16 → 0 < c → ((nI c) - 1).toInt8.toInt32 = nI (Nat.pred c % 16) := by decide +kernel
theorem zz_comp52 {post : St2 → Prop} {J4 : Int32 → Int32 → Int32 → Int32 → Int32 → Int32 → Int32 → Int32 → Int32 → Int32 → Int32 → (Nat → Int32) → (Nat → Int32) → (Nat → Int32) → (Nat → Int32) → (Nat → Int32) → (Nat → Int32) → (Nat → Int32) → (Nat → Int32) → (Nat → Int32) → (Nat → Int32) → (Nat → Int32) → (Nat → Int32) → (Nat → Int32) → (Nat → Int32) → (Nat → Int32) → (Nat → Int32) → (Nat → Int32) → (Nat → Int32) → (Nat → Int32) → Prop}
    {ih : Nat → Nat → Nat → Nat → Nat → Nat → Nat → Nat → Nat → Nat → Bool} {i k fr : Nat} (hi : i < 6)
    (hJ : ∀ fr sg le rs ad lf rf lv rv, ih fr (k + 1) sg le rs ad lf rf lv rv = true → J4 (zz_B fr) (nI (k + 1)) 6 (nI po) (zz_st st) (nI ct) gb (nI fa) (zz_B fe) (nI (zz_m6 fi)) (nI (zz_u un)) (zz_c nI 16 8852758) (zz_c nI 64 67649941120) (zz_c nI 16 9437189) (zz_c (zz_fD d) 18446744073709551616 rg) (zz_c (zz_fD d) 18446744073709551616 ce) (zz_c zz_fO 16 op) (zz_c nI 16 pl) (zz_c nI 16 sg) (zz_c nI 16 le) (zz_c (zz_fD d) 18446744073709551616 rs) (zz_c zz_fA 16 ad) zz_Z (zz_c nI 16 gu) (zz_c zz_fT 16 tg) (zz_c zz_fR 16 lf) (zz_c zz_fR 16 rf) (zz_c (zz_fD d) 18446744073709551616 lv) (zz_c (zz_fD d) 18446744073709551616 rv) (zz_c zz_fR 16 mk))
    (H : zz_comp2 ih fi un op pl i fr k sg le rs ad lf rf lv rv = true) :
    wX_complete_52 post J4 (zz_B fr) (nI k) (nI i) 6 (nI po) (zz_st st) (nI ct) gb (nI fa) (zz_B fe) (nI (zz_m6 fi)) (nI (zz_u un)) (zz_c nI 16 8852758) (zz_c nI 64 67649941120) (zz_c nI 16 9437189) (zz_c (zz_fD d) 18446744073709551616 rg) (zz_c (zz_fD d) 18446744073709551616 ce) (zz_c zz_fO 16 op) (zz_c nI 16 pl) (zz_c nI 16 sg) (zz_c nI 16 le) (zz_c (zz_fD d) 18446744073709551616 rs) (zz_c zz_fA 16 ad) zz_Z (zz_c nI 16 gu) (zz_c zz_fT 16 tg) (zz_c zz_fR 16 lf) (zz_c zz_fR 16 rf) (zz_c (zz_fD d) 18446744073709551616 lv) (zz_c (zz_fD d) 18446744073709551616 rv) (zz_c zz_fR 16 mk) := by
  have hI := pk_in (x := nI i) i 6 hi
  have h16 := zz_d16 le i
  refine ⟨hI, zz_br H (by rw [zz_rd (by omega)]; exact zz_cE (b := 0) rfl rfl (by omega) (by omega)) (fun _ H => ?_) (fun _ H => nm_r (nI_1 k) (hJ _ _ _ _ _ _ _ _ _ H))⟩
  refine zz_br H (zz_BI fr) (fun _ H => nm_r (nI_1 k) (hJ _ _ _ _ _ _ _ _ _ H)) (fun _ H => ?_)
  refine zz_work_w hi (fun rs ad H => ?_) H
  refine ⟨hI, nm_r (zz_uN (v := 2) (by omega) (by rfl)) ?_⟩
  have H := zz_fe H
  have H := zz_fe H
  refine zz_hand_w hi (fun lf rf lv rv H => ?_) H
  exact nm_r (nI_1 k) (hJ 0 _ _ _ _ _ _ _ _ H)
theorem zz_comp_l {post : St2 → Prop} {K : Nat → Nat → Nat → Nat → Nat → Nat → Nat → Nat → Bool}
    (hp : ∀ sg le rs ad lf rf lv rv, K sg le rs ad lf rf lv rv = true → post (zz_C d gb po st ct fa fe fi un rg ce op pl sg le rs ad gu tg lf rf lv rv mk)) :
    ∀ r k fr sg le rs ad lf rf lv rv, k + r = zz_u un → zz_comp fi un op pl K r fr k sg le rs ad lf rf lv rv = true →
    wX_complete_4 post (r + 1) (zz_B fr) (nI k) 6 (nI po) (zz_st st) (nI ct) gb (nI fa) (zz_B fe) (nI (zz_m6 fi)) (nI (zz_u un)) (zz_c nI 16 8852758) (zz_c nI 64 67649941120) (zz_c nI 16 9437189) (zz_c (zz_fD d) 18446744073709551616 rg) (zz_c (zz_fD d) 18446744073709551616 ce) (zz_c zz_fO 16 op) (zz_c nI 16 pl) (zz_c nI 16 sg) (zz_c nI 16 le) (zz_c (zz_fD d) 18446744073709551616 rs) (zz_c zz_fA 16 ad) zz_Z (zz_c nI 16 gu) (zz_c zz_fT 16 tg) (zz_c zz_fR 16 lf) (zz_c zz_fR 16 rf) (zz_c (zz_fD d) 18446744073709551616 lv) (zz_c (zz_fD d) 18446744073709551616 rv) (zz_c zz_fR 16 mk) := by
  intro r
  have hu := zz_u_lt un
  induction r with
  | zero =>
    intro k fr sg le rs ad lf rf lv rv hk H
    exact br_t (nI_le (by omega) (by omega)) (hp _ _ _ _ _ _ _ _ H)
  | succ r ih =>
    intro k fr sg le rs ad lf rf lv rv hk H
    rw [zz_comp_s] at H
    have hj := zz_ix_lt fi k
    have hJ := fun fr sg le rs ad lf rf lv rv h => ih (k + 1) fr sg le rs ad lf rf lv rv (by omega) h
    have h16 := zz_d16 sg (zz_ix fi k)
    have h17 := zz_d16 le (zz_ix fi k)
    refine br_f (nI_ge (by omega) (by omega)) ⟨by decide, nm_r (zz_rem fi k (by omega)) ⟨pk_in _ 6 hj, ?_⟩⟩
    have H := zz_fe H
    refine zz_br H (by rw [zz_rd (by omega)]; exact zz_cE (b := 1) rfl rfl (by omega) (by omega)) (fun _ H => ?_) (fun _ H => nm_r (nI_1 k) (hJ _ _ _ _ _ _ _ _ _ H))
    refine ⟨pk_in _ 6 hj, zz_br H (by rw [zz_rd (by omega)]; exact zz_cL (b := 0) rfl rfl (by omega) (by omega)) (fun _ H => zz_comp52 hj hJ H) (fun e H => ?_)⟩
    have e := zz_nle e
    refine ⟨pk_in _ 6 hj, pk_in _ 6 hj, nm_r (zz_uN (v := Nat.pred (zz_dg 16 le (zz_ix fi k))) (by omega) ?_) (zz_fb H fun H => zz_comp52 hj hJ H)⟩
    rw [zz_rd (by omega)]
    exact zz_le1 _ h17 (by omega)
theorem zz_comp_w {post : St2 → Prop} {K : Nat → Nat → Nat → Nat → Nat → Nat → Nat → Nat → Bool}
    (hp : ∀ sg le rs ad lf rf lv rv, K sg le rs ad lf rf lv rv = true → post (zz_C d gb po st ct fa fe fi un rg ce op pl sg le rs ad gu tg lf rf lv rv mk))
    (H : zz_comp fi un op pl K (zz_u un) 1 0 sg le rs ad lf rf lv rv = true) : wpX_complete post (zz_C d gb po st ct fa fe fi un rg ce op pl sg le rs ad gu tg lf rf lv rv mk) :=
  Exists.intro (zz_u un + 1) (zz_comp_l hp (zz_u un) 0 1 sg le rs ad lf rf lv rv (by omega) H)
end
end
section
/-! begin and issue -/
section
variable {d gb : Int32} {po st ct fa fe fi un rg ce op pl sg le rs ad gu tg lf rf lv rv mk : Nat}
theorem zz_oNe {i : Nat} (hi : i < 6) (b : Nat) (hb : b = 2 ∨ b = 3 ∨ b = 4 ∨ b = 9) : ¬ zz_c zz_fO 16 op (nI i).toNatClampNeg = nI b := by
  rw [zz_rd (by omega)]
  have h := zz_oC (zz_dg 16 op i) (zz_d16 op i)
  intro z
  have := (nI_eq (by omega) (by omega)).mp z
  omega
theorem zz_beg4 {post : St2 → Prop} (hq : ∃ fu : Nat, wX_begin_70 post 6 (nI po) (zz_st st) (nI ct) gb (nI fa) (zz_B fe) (nI (zz_m6 fi)) (nI (zz_u un)) fu 0 0 0 (zz_c nI 16 8852758) (zz_c nI 64 67649941120) (zz_c nI 16 9437189) (zz_c (zz_fD d) 18446744073709551616 rg) (zz_c (zz_fD d) 18446744073709551616 ce) (zz_c zz_fO 16 op) (zz_c nI 16 pl) (zz_c nI 16 sg) (zz_c nI 16 le) (zz_c (zz_fD d) 18446744073709551616 rs) (zz_c zz_fA 16 ad) zz_Z (zz_c nI 16 gu) (zz_c zz_fT 16 tg) (zz_c zz_fR 16 lf) (zz_c zz_fR 16 rf) (zz_c (zz_fD d) 18446744073709551616 lv) (zz_c (zz_fD d) 18446744073709551616 rv) (zz_c zz_fR 16 mk)) :
    ∀ r k, k + r = zz_u un → wX_begin_4 post 6 (nI po) (zz_st st) (nI ct) gb (nI fa) (zz_B fe) (nI (zz_m6 fi)) (nI (zz_u un)) (zz_c nI 16 8852758) (zz_c nI 64 67649941120) (zz_c nI 16 9437189) (zz_c (zz_fD d) 18446744073709551616 rg) (zz_c (zz_fD d) 18446744073709551616 ce) (zz_c zz_fO 16 op) (zz_c nI 16 pl) (zz_c nI 16 sg) (zz_c nI 16 le) (zz_c (zz_fD d) 18446744073709551616 rs) (zz_c zz_fA 16 ad) zz_Z (zz_c nI 16 gu) (zz_c zz_fT 16 tg) (zz_c zz_fR 16 lf) (zz_c zz_fR 16 rf) (zz_c (zz_fD d) 18446744073709551616 lv) (zz_c (zz_fD d) 18446744073709551616 rv) (zz_c zz_fR 16 mk) (r + 1) 0 (nI k) := by
  intro r
  have hu := zz_u_lt un
  induction r with
  | zero =>
    intro k hk
    exact br_t (nI_le (by omega) (by omega)) hq
  | succ r ih =>
    intro k hk
    have hj := zz_ix_lt fi k
    have hJ := ih (k + 1) (by omega)
    refine br_f (nI_ge (by omega) (by omega)) ⟨by decide, nm_r (zz_rem fi k (by omega)) ⟨pk_in _ 6 hj, br_c (fun _ => ?_) (fun _ => ?_)⟩⟩
    · exact ⟨pk_in _ 6 hj, br_f (zz_oNe hj 2 (by omega)) ⟨pk_in _ 6 hj, br_f (zz_oNe hj 3 (by omega)) (nm_r (e' := 0) (by decide) (nm_r (nI_1 k) hJ))⟩⟩
    · exact nm_r (e' := 0) (by decide) (nm_r (nI_1 k) hJ)
theorem zz_beg215 {post : St2 → Prop} {J70 : Int32 → Int32 → Int32 → (Nat → Int32) → (Nat → Int32) → (Nat → Int32) → (Nat → Int32) → (Nat → Int32) → (Nat → Int32) → (Nat → Int32) → (Nat → Int32) → (Nat → Int32) → (Nat → Int32) → (Nat → Int32) → (Nat → Int32) → (Nat → Int32) → (Nat → Int32) → (Nat → Int32) → (Nat → Int32) → (Nat → Int32) → (Nat → Int32) → (Nat → Int32) → Prop} {i k : Nat} {x2 : Int32} (hi : i < 6)
    (hJ : ∀ x2, J70 0 x2 (nI (k + 1)) (zz_c nI 16 8852758) (zz_c nI 64 67649941120) (zz_c nI 16 9437189) (zz_c (zz_fD d) 18446744073709551616 rg) (zz_c (zz_fD d) 18446744073709551616 ce) (zz_c zz_fO 16 op) (zz_c nI 16 pl) (zz_c nI 16 sg) (zz_c nI 16 le) (zz_c (zz_fD d) 18446744073709551616 rs) (zz_c zz_fA 16 ad) zz_Z (zz_c nI 16 gu) (zz_c zz_fT 16 tg) (zz_c zz_fR 16 lf) (zz_c zz_fR 16 rf) (zz_c (zz_fD d) 18446744073709551616 lv) (zz_c (zz_fD d) 18446744073709551616 rv) (zz_c zz_fR 16 mk)) : wX_begin_215 post J70 0 x2 (nI k) (nI i) 6 (nI po) (zz_st st) (nI ct) gb (nI fa) (zz_B fe) (nI (zz_m6 fi)) (nI (zz_u un)) (zz_c nI 16 8852758) (zz_c nI 64 67649941120) (zz_c nI 16 9437189) (zz_c (zz_fD d) 18446744073709551616 rg) (zz_c (zz_fD d) 18446744073709551616 ce) (zz_c zz_fO 16 op) (zz_c nI 16 pl) (zz_c nI 16 sg) (zz_c nI 16 le) (zz_c (zz_fD d) 18446744073709551616 rs) (zz_c zz_fA 16 ad) zz_Z (zz_c nI 16 gu) (zz_c zz_fT 16 tg) (zz_c zz_fR 16 lf) (zz_c zz_fR 16 rf) (zz_c (zz_fD d) 18446744073709551616 lv) (zz_c (zz_fD d) 18446744073709551616 rv) (zz_c zz_fR 16 mk) :=
  ⟨pk_in i 6 hi, br_c (fun _ => nm_e (nm_r (nI_1 k) (hJ _))) (fun _ => nm_e (nm_r (nI_1 k) (hJ _)))⟩
theorem zz_beg184 {post : St2 → Prop} {J70 : Int32 → Int32 → Int32 → (Nat → Int32) → (Nat → Int32) → (Nat → Int32) → (Nat → Int32) → (Nat → Int32) → (Nat → Int32) → (Nat → Int32) → (Nat → Int32) → (Nat → Int32) → (Nat → Int32) → (Nat → Int32) → (Nat → Int32) → (Nat → Int32) → (Nat → Int32) → (Nat → Int32) → (Nat → Int32) → (Nat → Int32) → (Nat → Int32) → (Nat → Int32) → Prop} {i k : Nat} {x2 : Int32} (hi : i < 6)
    (hJ : ∀ x2, J70 0 x2 (nI (k + 1)) (zz_c nI 16 8852758) (zz_c nI 64 67649941120) (zz_c nI 16 9437189) (zz_c (zz_fD d) 18446744073709551616 rg) (zz_c (zz_fD d) 18446744073709551616 ce) (zz_c zz_fO 16 op) (zz_c nI 16 pl) (zz_c nI 16 (zz_ds 16 sg i 1)) (zz_c nI 16 (zz_ds 16 le i 1)) (zz_c (zz_fD d) 18446744073709551616 rs) (zz_c zz_fA 16 ad) zz_Z (zz_c nI 16 gu) (zz_c zz_fT 16 tg) (zz_c zz_fR 16 lf) (zz_c zz_fR 16 rf) (zz_c (zz_fD d) 18446744073709551616 lv) (zz_c (zz_fD d) 18446744073709551616 rv) (zz_c zz_fR 16 mk)) : wX_begin_184 post J70 0 x2 (nI k) (nI i) 0 6 (nI po) (zz_st st) (nI ct) gb (nI fa) (zz_B fe) (nI (zz_m6 fi)) (nI (zz_u un)) (zz_c nI 16 8852758) (zz_c nI 64 67649941120) (zz_c nI 16 9437189) (zz_c (zz_fD d) 18446744073709551616 rg) (zz_c (zz_fD d) 18446744073709551616 ce) (zz_c zz_fO 16 op) (zz_c nI 16 pl) (zz_c nI 16 sg) (zz_c nI 16 le) (zz_c (zz_fD d) 18446744073709551616 rs) (zz_c zz_fA 16 ad) zz_Z (zz_c nI 16 gu) (zz_c zz_fT 16 tg) (zz_c zz_fR 16 lf) (zz_c zz_fR 16 rf) (zz_c (zz_fD d) 18446744073709551616 lv) (zz_c (zz_fD d) 18446744073709551616 rv) (zz_c zz_fR 16 mk) := by
  have hI := pk_in (x := nI i) i 6 hi
  refine ⟨hI, nm_r (zz_uN (v := 1) (by omega) (by rfl)) ⟨hI, ?_⟩⟩
  refine br_f (zz_oNe hi 3 (by omega)) (br_f (zz_oNe hi 2 (by omega)) (br_f (zz_oNe hi 4 (by omega)) ?_))
  exact ⟨hI, nm_r (zz_uN (v := 1) (by omega) (by decide)) (nm_r (e' := 0) (by decide) (zz_beg215 hi hJ))⟩
theorem zz_beg70 {post : St2 → Prop} {K : Nat → Nat → Bool} (hp : ∀ sg le, K sg le = true → post (zz_C d gb po st ct fa fe fi un rg ce op pl sg le rs ad gu tg lf rf lv rv mk)) :
    ∀ r k sg le x2, k + r = zz_u un → zz_beg fi lf rf K r k sg le = true → wX_begin_70 post 6 (nI po) (zz_st st) (nI ct) gb (nI fa) (zz_B fe) (nI (zz_m6 fi)) (nI (zz_u un)) (r + 1) 0 x2 (nI k) (zz_c nI 16 8852758) (zz_c nI 64 67649941120) (zz_c nI 16 9437189) (zz_c (zz_fD d) 18446744073709551616 rg) (zz_c (zz_fD d) 18446744073709551616 ce) (zz_c zz_fO 16 op) (zz_c nI 16 pl) (zz_c nI 16 sg) (zz_c nI 16 le) (zz_c (zz_fD d) 18446744073709551616 rs) (zz_c zz_fA 16 ad) zz_Z (zz_c nI 16 gu) (zz_c zz_fT 16 tg) (zz_c zz_fR 16 lf) (zz_c zz_fR 16 rf) (zz_c (zz_fD d) 18446744073709551616 lv) (zz_c (zz_fD d) 18446744073709551616 rv) (zz_c zz_fR 16 mk) := by
  intro r
  have hu := zz_u_lt un
  induction r with
  | zero =>
    intro k sg le x2 hk H
    exact br_t (nI_le (by omega) (by omega)) (hp _ _ H)
  | succ r ih =>
    intro k sg le x2 hk H
    rw [zz_beg_s] at H
    have hj := zz_ix_lt fi k
    have hJ := fun sg le h x2 => ih (k + 1) sg le x2 (by omega) h
    have h16 := zz_d16 sg (zz_ix fi k)
    have H := zz_fe H
    refine br_f (nI_ge (by omega) (by omega)) ⟨by decide, nm_r (zz_rem fi k (by omega)) ⟨pk_in _ 6 hj, br_f (zz_oNe hj 2 (by omega)) ⟨pk_in _ 6 hj, br_f (zz_oNe hj 3 (by omega)) ⟨pk_in _ 6 hj, ?_⟩⟩⟩⟩
    refine zz_br H (by rw [zz_rd (by omega)]; exact zz_cE (b := 0) rfl rfl (by omega) (by omega)) (fun _ H => ⟨pk_in _ 6 hj, ?_⟩) (fun _ H => br_t rfl (zz_beg215 hj (hJ _ _ H)))
    refine zz_bn H (by rw [zz_rd (by omega)]; exact zz_fR_le _) (fun _ H => br_t rfl (zz_beg215 hj (hJ _ _ H))) (fun _ H => ⟨pk_in _ 6 hj, ?_⟩)
    refine zz_bn H (by rw [zz_rd (by omega)]; exact zz_fR_le _) (fun _ H => br_t rfl (zz_beg215 hj (hJ _ _ H))) (fun _ H => ?_)
    have H := zz_fe H
    have H := zz_fe H
    refine br_f (by decide) (br_t rfl ⟨pk_in _ 6 hj, br_f (zz_oNe hj 4 (by omega)) (zz_beg184 hj (hJ _ _ H))⟩)
theorem zz_beg_w {post : St2 → Prop} {K : Nat → Nat → Bool} (hp : ∀ sg le, K sg le = true → post (zz_C d gb po st ct fa fe fi un rg ce op pl sg le rs ad gu tg lf rf lv rv mk))
    (H : zz_beg fi lf rf K (zz_u un) 0 sg le = true) : wpX_begin post (zz_C d gb po st ct fa fe fi un rg ce op pl sg le rs ad gu tg lf rf lv rv mk) :=
  Exists.intro (zz_u un + 1) (zz_beg4 (Exists.intro (zz_u un + 1) (zz_beg70 hp (zz_u un) 0 sg le 0 (by omega) H)) (zz_u un) 0 (by omega))
theorem zz_b8 : ∀ m, m < 6 → (nI m).toInt8.toInt32 = nI m := by decide +kernel
theorem zz_rdL {post : St2 → Prop} {K : Nat → Nat → Bool} {i r : Nat} (hi : i < 6) (hr : r < 4)
    (hp : ∀ lf lv, K lf lv = true → post (zz_C d gb po st ct fa fe fi un rg ce op pl sg le rs ad gu tg lf rf lv rv mk)) (H : zz_read i r rg sg rs mk lf lv K = true) : wpX_readLeft post (zz_C d gb po st ct fa fe fi un rg ce op pl sg le rs ad gu tg lf rf lv rv mk) (nI i) (nI r) := by
  have hI := pk_in (x := nI i) i 6 hi
  have H := zz_fe H
  have h16 := zz_d16 mk r
  unfold wpX_readLeft
  refine ⟨pk_in r 4 hr, nm_r (zz_rd (by omega)) ?_⟩
  refine zz_br H (zz_fR_lt _) (fun e H => br_t rfl ⟨hI, nm_r (zz_uR (v := 15) (by omega) (by rfl)) (br_f ?_ ⟨pk_in r 4 hr, hI, nm_r (zz_uD (by omega) (zz_rd (by omega))) (zz_fb H fun H => zz_fb H fun H => hp _ _ H)⟩)⟩) (fun e H => ?_)
  · intro z
    rw [(zz_fR_le _).mp z] at e
    exact absurd e (by decide)
  · have hm := zz_nle e
    have h17 := zz_d16 sg (zz_dg 16 mk r)
    rw [zz_fR_s hm]
    refine ⟨pk_in _ 6 hm, zz_br H (by rw [zz_rd (by omega)]; exact zz_cE (b := 2) rfl rfl (by omega) (by omega)) (fun _ H => br_t rfl ?_) (fun _ H => br_f (by decide) ?_)⟩
    · exact ⟨hI, nm_r (zz_uR (v := 15) (by omega) (by rfl)) (br_t (nI_pos' (by omega)) ⟨pk_in _ 6 hm, hI, nm_r (zz_uD (by omega) (zz_rd (by omega))) (zz_fb H fun H => zz_fb H fun H => hp _ _ H)⟩)⟩
    · refine ⟨hI, nm_r (zz_uR (v := zz_dg 16 mk r) (by omega) ?_) (br_t (nI_pos' (by omega)) ⟨pk_in _ 6 hm, hI, nm_r (zz_uD (by omega) (zz_rd (by omega))) (zz_fb H fun H => zz_fb H fun H => hp _ _ H)⟩)⟩
      rw [zz_b8 _ hm, Nat.mod_eq_of_lt (by omega), zz_fR_s hm]
theorem zz_rdR {post : St2 → Prop} {K : Nat → Nat → Bool} {i r : Nat} (hi : i < 6) (hr : r < 4)
    (hp : ∀ rf rv, K rf rv = true → post (zz_C d gb po st ct fa fe fi un rg ce op pl sg le rs ad gu tg lf rf lv rv mk)) (H : zz_read i r rg sg rs mk rf rv K = true) : wpX_readRight post (zz_C d gb po st ct fa fe fi un rg ce op pl sg le rs ad gu tg lf rf lv rv mk) (nI i) (nI r) := by
  have hI := pk_in (x := nI i) i 6 hi
  have H := zz_fe H
  have h16 := zz_d16 mk r
  unfold wpX_readRight
  refine ⟨pk_in r 4 hr, nm_r (zz_rd (by omega)) ?_⟩
  refine zz_br H (zz_fR_lt _) (fun e H => br_t rfl ⟨hI, nm_r (zz_uR (v := 15) (by omega) (by rfl)) (br_f ?_ ⟨pk_in r 4 hr, hI, nm_r (zz_uD (by omega) (zz_rd (by omega))) (zz_fb H fun H => zz_fb H fun H => hp _ _ H)⟩)⟩) (fun e H => ?_)
  · intro z
    rw [(zz_fR_le _).mp z] at e
    exact absurd e (by decide)
  · have hm := zz_nle e
    have h17 := zz_d16 sg (zz_dg 16 mk r)
    rw [zz_fR_s hm]
    refine ⟨pk_in _ 6 hm, zz_br H (by rw [zz_rd (by omega)]; exact zz_cE (b := 2) rfl rfl (by omega) (by omega)) (fun _ H => br_t rfl ?_) (fun _ H => br_f (by decide) ?_)⟩
    · exact ⟨hI, nm_r (zz_uR (v := 15) (by omega) (by rfl)) (br_t (nI_pos' (by omega)) ⟨pk_in _ 6 hm, hI, nm_r (zz_uD (by omega) (zz_rd (by omega))) (zz_fb H fun H => zz_fb H fun H => hp _ _ H)⟩)⟩
    · refine ⟨hI, nm_r (zz_uR (v := zz_dg 16 mk r) (by omega) ?_) (br_t (nI_pos' (by omega)) ⟨pk_in _ 6 hm, hI, nm_r (zz_uD (by omega) (zz_rd (by omega))) (zz_fb H fun H => zz_fb H fun H => hp _ _ H)⟩)⟩
      rw [zz_b8 _ hm, Nat.mod_eq_of_lt (by omega), zz_fR_s hm]
/-! operands, by the operation -/
theorem zz_roZ {post : St2 → Prop} {K : Nat → Nat → Bool} {i : Nat} (hi : i < 6) (hp : ∀ lf lv, K lf lv = true → post (zz_C d gb po st ct fa fe fi un rg ce op pl sg le rs ad gu tg lf rf lv rv mk))
    (H : zz_read i 0 rg sg rs mk lf lv K = true) : wpX_readOperands post (zz_C d gb po st ct fa fe fi un rg ce op pl sg le rs ad gu tg lf rf lv rv mk) (nI i) (nI 6) (nI 0) := by
  unfold wpX_readOperands
  refine nm_r (e' := nI 0) (by decide) (nm_r (e' := nI 0) (by decide) (nm_r (e' := nI 0) (by decide) (br_f (by decide) (br_t (by decide) (br_f (by decide) (br_t (by decide) ?_))))))
  exact zz_rdL hi (by omega) (fun lf lv H => br_t (by decide) (hp _ _ H)) H
theorem zz_roA {post : St2 → Prop} {K : Nat → Nat → Nat → Nat → Bool} {i a b c p : Nat} (hi : i < 6) (ha : a < 4) (hb : b < 4) (hc : c < 4)
    (e1 : nI p &&& 3 = nI a) (e2 : (nI p >>> ((2 : Int32) &&& 31)) &&& 3 = nI b) (e3 : nI p >>> ((4 : Int32) &&& 31) = nI c)
    (hp : ∀ lf lv rf rv, K lf lv rf rv = true → post (zz_C d gb po st ct fa fe fi un rg ce op pl sg le rs ad gu (zz_ds 16 tg i a) lf rf lv rv (zz_ds 16 mk a i)))
    (H : zz_read i b rg sg rs mk lf lv (fun lf lv => zz_read i c rg sg rs mk rf rv (fun rf rv => K lf lv rf rv)) = true) : wpX_readOperands post (zz_C d gb po st ct fa fe fi un rg ce op pl sg le rs ad gu tg lf rf lv rv mk) (nI i) (nI 1) (nI p) := by
  have hI := pk_in (x := nI i) i 6 hi
  unfold wpX_readOperands
  refine nm_r e1 (nm_r e2 (nm_r e3 (br_f (by decide) (br_f (by decide) ?_))))
  refine zz_rdL hi hb (fun lf lv H => br_f (by decide) ?_) H
  refine zz_rdR hi hc (fun rf rv H => br_f (by decide) ⟨hI, nm_r (zz_uT (v := a) (by omega) ?_) ⟨pk_in a 4 ha, nm_r (zz_uR (v := i) (by omega) ?_) (hp _ _ _ _ H)⟩⟩) H
  · rw [zz_b8 _ (by omega), Nat.mod_eq_of_lt (by omega)]
    exact congrArg nI (Nat.mod_eq_of_lt ha).symm
  · rw [zz_b8 _ (by omega), Nat.mod_eq_of_lt (by omega), zz_fR_s hi]
theorem zz_roS {post : St2 → Prop} {K : Nat → Nat → Nat → Nat → Bool} {i : Nat} (hi : i < 6) (hp : ∀ lf lv rf rv, K lf lv rf rv = true → post (zz_C d gb po st ct fa fe fi un rg ce op pl sg le rs ad gu tg lf rf lv rv mk))
    (H : zz_read i 2 rg sg rs mk lf lv (fun lf lv => zz_read i 0 rg sg rs mk rf rv (fun rf rv => K lf lv rf rv)) = true) : wpX_readOperands post (zz_C d gb po st ct fa fe fi un rg ce op pl sg le rs ad gu tg lf rf lv rv mk) (nI i) (nI 5) (nI 2) := by
  unfold wpX_readOperands
  refine nm_r (e' := nI 2) (by decide) (nm_r (e' := nI 0) (by decide) (nm_r (e' := nI 0) (by decide) (br_f (by decide) (br_t (by decide) (br_t (by decide) ?_)))))
  refine zz_rdL hi (by omega) (fun lf lv H => ?_) H
  exact zz_rdR hi (by omega) (fun rf rv H => br_t (by decide) (hp _ _ _ _ H)) H
theorem zz_roJ {post : St2 → Prop} {i : Nat} (hp : post (zz_C d gb po st ct fa fe fi un rg ce op pl sg le rs ad gu tg lf rf lv rv mk)) : wpX_readOperands post (zz_C d gb po st ct fa fe fi un rg ce op pl sg le rs ad gu tg lf rf lv rv mk) (nI i) (nI 7) (nI 0) := by
  unfold wpX_readOperands
  exact nm_e (nm_e (nm_e (br_f (by decide) (br_t (by decide) (br_f (by decide) (br_f (by decide) (br_t (by decide) hp)))))))
theorem zz_roH {post : St2 → Prop} {i : Nat} (hp : post (zz_C d gb po st ct fa fe fi un rg ce op pl sg le rs ad gu tg lf rf lv rv mk)) : wpX_readOperands post (zz_C d gb po st ct fa fe fi un rg ce op pl sg le rs ad gu tg lf rf lv rv mk) (nI i) (nI 8) (nI 63) := by
  unfold wpX_readOperands
  exact nm_e (nm_e (nm_e (br_f (by decide) (br_t (by decide) (br_f (by decide) (br_f (by decide) (br_t (by decide) hp)))))))
/-! where fetching goes on -/
/-- the guess for the position 0: 1 (not taken) or 5 -/
def zz_gu (gb : Int32) : Nat := if ((gb.toUInt32 >>> ((nI 0 &&& 15).toUInt32 &&& Int32.toUInt32 31)).toInt32 &&& 1) = 0 then 1 else 5
theorem zz_foZ {post : St2 → Prop} {i : Nat} (hi : i < 6) (hpl : zz_dg 16 pl i = 0)
    (hp : post (zz_C d gb po st ct (zz_gu gb) fe fi un rg ce op pl sg le (zz_ds 18446744073709551616 rs i 5) ad (zz_ds 16 gu i (zz_gu gb)) tg lf rf lv rv mk)) : wpX_follow post (zz_C d gb po st ct fa fe fi un rg ce op pl sg le rs ad gu tg lf rf lv rv mk) (nI i) (nI 6) (nI 5) := by
  have hI := pk_in (x := nI i) i 6 hi
  have hq : zz_c nI 16 pl (nI i).toNatClampNeg = nI 0 := by rw [zz_rd (by omega), hpl]
  have hr : ∀ v, v < 16 → zz_c nI 16 (zz_ds 16 gu i v) (nI i).toNatClampNeg = nI v := fun v hv => by rw [zz_rd (by omega), zz_dg_ds (by decide), if_pos rfl, Nat.mod_eq_of_lt hv]
  unfold wpX_follow
  refine ⟨hI, nm_r (e' := nI 1) (by rw [hq]; decide) (br_f (by decide) (br_f (by decide) ⟨hI, nm_r (zz_uD (v := 5) (by omega) (zz_fD_s d (by decide)).symm) (br_t rfl ⟨hI, ?_⟩)⟩))⟩
  rw [hq]
  unfold zz_gu at hp
  refine br_c (fun e => br_t rfl ?_) (fun e => br_f (by decide) ?_)
  · rw [if_pos e] at hp
    exact ⟨hI, nm_r (zz_uN (v := 1) (by omega) (by rfl)) ⟨hI, nm_r (hr 1 (by decide)) hp⟩⟩
  · rw [if_neg e] at hp
    exact ⟨hI, nm_r (zz_uN (v := 5) (by omega) (by rfl)) ⟨hI, nm_r (hr 5 (by decide)) hp⟩⟩
theorem zz_foA {post : St2 → Prop} {i a : Nat} (hi : i < 6) (ha : a < 16) (hpl : zz_dg 16 pl i = a)
    (hp : post (zz_C d gb po st ct (a + 1) fe fi un rg ce op pl sg le rs ad gu tg lf rf lv rv mk)) : wpX_follow post (zz_C d gb po st ct fa fe fi un rg ce op pl sg le rs ad gu tg lf rf lv rv mk) (nI i) (nI 1) (nI 0) := by
  have hI := pk_in (x := nI i) i 6 hi
  have hq : zz_c nI 16 pl (nI i).toNatClampNeg = nI a := by rw [zz_rd (by omega), hpl]
  unfold wpX_follow
  exact ⟨hI, nm_r (e' := nI (a + 1)) (by rw [hq]; exact nI_1 a) (br_f (by decide) (br_t (by decide) (br_f (by decide) (br_f (by decide) (br_f (by decide) hp)))))⟩
theorem zz_foS {post : St2 → Prop} {i a : Nat} (hi : i < 6) (ha : a < 16) (hpl : zz_dg 16 pl i = a)
    (hp : post (zz_C d gb po st ct (a + 1) fe fi un rg ce op pl sg le rs ad gu tg lf rf lv rv mk)) : wpX_follow post (zz_C d gb po st ct fa fe fi un rg ce op pl sg le rs ad gu tg lf rf lv rv mk) (nI i) (nI 5) (nI 0) := by
  have hI := pk_in (x := nI i) i 6 hi
  have hq : zz_c nI 16 pl (nI i).toNatClampNeg = nI a := by rw [zz_rd (by omega), hpl]
  unfold wpX_follow
  exact ⟨hI, nm_r (e' := nI (a + 1)) (by rw [hq]; exact nI_1 a) (br_f (by decide) (br_t (by decide) (br_f (by decide) (br_f (by decide) (br_f (by decide) hp)))))⟩
theorem zz_foJ {post : St2 → Prop} {i : Nat} (hi : i < 6)
    (hp : post (zz_C d gb po st ct 0 fe fi un rg ce op pl sg le (zz_ds 18446744073709551616 rs i 0) ad gu tg lf rf lv rv mk)) : wpX_follow post (zz_C d gb po st ct fa fe fi un rg ce op pl sg le rs ad gu tg lf rf lv rv mk) (nI i) (nI 7) (nI 0) := by
  have hI := pk_in (x := nI i) i 6 hi
  unfold wpX_follow
  exact ⟨hI, nm_e (br_f (by decide) (br_f (by decide) ⟨hI, nm_r (zz_uD (v := 0) (by omega) (zz_fD_s d (by decide)).symm) (br_f (by decide) (br_t rfl hp))⟩))⟩
theorem zz_foH {post : St2 → Prop} {i : Nat} (hi : i < 6) (hpl : zz_dg 16 pl i = 5)
    (hp : post (zz_C d gb po st ct 6 0 fi un rg ce op pl sg le (zz_ds 18446744073709551616 rs i 9) ad gu tg lf rf lv rv mk)) : wpX_follow post (zz_C d gb po st ct fa fe fi un rg ce op pl sg le rs ad gu tg lf rf lv rv mk) (nI i) (nI 8) (nI 9) := by
  have hI := pk_in (x := nI i) i 6 hi
  have hq : zz_c nI 16 pl (nI i).toNatClampNeg = nI 5 := by rw [zz_rd (by omega), hpl]
  unfold wpX_follow
  exact ⟨hI, nm_r (e' := nI 6) (by rw [hq]; decide) (br_f (by decide) (br_f (by decide) ⟨hI, nm_r (zz_uD (v := 9) (by omega) (zz_fD_s d (by decide)).symm) (br_f (by decide) (br_f (by decide) (br_t rfl hp)))⟩))⟩
end
end
section
/-! issue as a whole, retire, finish -/
section
variable {d gb : Int32} {po st ct fa fe fi un rg ce op pl sg le rs ad gu tg lf rf lv rv mk : Nat}
theorem zz_Cu : (zz_C d gb po st ct fa fe fi (zz_u un) rg ce op pl sg le rs ad gu tg lf rf lv rv mk) = (zz_C d gb po st ct fa fe fi un rg ce op pl sg le rs ad gu tg lf rf lv rv mk) := by
  unfold zz_C
  rw [zz_u_u (zz_u_lt un)]
theorem zz_iss_lt {g i : Nat} {K : Nat → Nat → Nat → Nat → Nat → Nat → Nat → Nat → Nat → Nat → Bool} (H : zz_iss2 g i fa fe rg sg rs gu tg lf rf lv rv mk K = true) : fa < 6 := by
  refine zz_cs H (fun e _ => ?_) (fun _ H => zz_cs H (fun e _ => ?_) (fun _ H => zz_cs H (fun e _ => ?_) (fun _ H => zz_cs H (fun e _ => ?_) (fun _ H => zz_cs H (fun e _ => ?_) (fun _ H => zz_cs H (fun e _ => ?_) (fun _ H => absurd H (by decide)))))))
  all_goals (have := zz_be e; omega)
theorem zz_pO : ∀ a, a < 6 → (nI (zz_dg 16 8852758 a)).toInt8.toInt32 = zz_fO (zz_dg 16 8852758 a % 16) := by decide +kernel
theorem zz_iss_w {post : St2 → Prop} {K : Nat → Nat → Nat → Nat → Nat → Nat → Nat → Nat → Nat → Nat → Nat → Nat → Nat → Nat → Bool}
    (hp : ∀ fa fe un op pl sg rs gu tg lf rf lv rv mk, K fa fe un op pl sg rs gu tg lf rf lv rv mk = true → post (zz_C d gb po st ct fa fe fi un rg ce op pl sg le rs ad gu tg lf rf lv rv mk))
    (H : zz_iss (zz_gu gb) fa fe fi un rg op pl sg rs gu tg lf rf lv rv mk K = true) : wpX_issue post (zz_C d gb po st ct fa fe fi un rg ce op pl sg le rs ad gu tg lf rf lv rv mk) := by
  have hu := zz_u_lt un
  have H := zz_fe H
  unfold wpX_issue
  refine zz_br H (zz_cL (a := 6) (b := zz_u un) rfl rfl (by omega) (by omega)) (fun _ H => ?_) (fun e6 H => ?_)
  · have h := hp _ _ _ _ _ _ _ _ _ _ _ _ _ _ H
    rw [zz_Cu] at h
    exact h
  refine zz_br H (zz_BI fe) (fun _ H => ?_) (fun ef H => ?_)
  · have h := hp _ _ _ _ _ _ _ _ _ _ _ _ _ _ H
    rw [zz_Cu] at h
    exact h
  have e6 := zz_nle e6
  have hi := zz_ix_lt fi (zz_u un)
  have hI := pk_in (x := nI (zz_ix fi (zz_u un))) _ 6 hi
  have H := zz_fe H
  have H := zz_fe H
  have H := zz_fe H
  have H := zz_fe H
  have H := zz_fe H
  have H := zz_fe H
  have hfa := zz_iss_lt H
  have hF := pk_in (x := nI fa) fa 16 (by omega)
  have hpl : zz_dg 16 (zz_ds 16 pl (zz_ix fi (zz_u un)) fa) (zz_ix fi (zz_u un)) = fa := by
    rw [zz_dg_ds (by decide), if_pos rfl, Nat.mod_eq_of_lt (by omega)]
  have hun : nI (zz_u un) + 1 = nI (zz_u (zz_u un + 1)) := by
    rw [nI_1, zz_u_u (n := zz_u un + 1) (by omega)]
  refine ⟨by decide, nm_r (zz_rem fi (zz_u un) hu) (br_f (nI_pos (by omega)) (br_f (nI_ge (b := 6) hfa (by omega)) (br_f (by decide) ⟨hF, ?_⟩)))⟩
  refine ⟨hI, nm_r (zz_uO (v := zz_dg 16 8852758 fa) (by omega) ?_) ⟨hI, nm_r (zz_uN (v := fa) (by omega) ?_) ⟨hI, nm_r (zz_uN (v := 0) (by omega) (by rfl)) ⟨hI, nm_r zz_uZ ⟨hI, nm_r (zz_uR (v := 15) (by omega) (by rfl)) ⟨hI, nm_r (zz_uR (v := 15) (by omega) (by rfl)) (nm_r hun (br_f (by decide) ⟨hF, ?_⟩))⟩⟩⟩⟩⟩⟩
  · rw [zz_rd (by omega)]
    exact zz_pO fa hfa
  · exact congrArg nI (Nat.mod_eq_of_lt (by omega)).symm
  refine zz_cs H (fun e H => ?_) (fun _ H => zz_cs H (fun e H => ?_) (fun _ H => zz_cs H (fun e H => ?_) (fun _ H => zz_cs H (fun e H => ?_) (fun _ H => zz_cs H (fun e H => ?_) (fun _ H => zz_cs H (fun e H => ?_) (fun _ H => absurd H (by decide)))))))
  · have e := zz_be e
    subst e
    rw [show (zz_c nI 16 8852758) (nI 0).toNatClampNeg = nI 6 from by decide, show (zz_c nI 64 67649941120) (nI 0).toNatClampNeg = nI 0 from by decide]
    refine zz_roZ hi (fun lf lv H => ⟨hF, ?_⟩) H
    rw [show (zz_c nI 16 9437189) (nI 0).toNatClampNeg = nI 5 from by decide]
    exact zz_foZ hi hpl (zz_fb H fun H => zz_fb H fun H => hp _ _ _ _ _ _ _ _ _ _ _ _ _ _ H)
  · have e := zz_be e
    subst e
    rw [show (zz_c nI 16 8852758) (nI 1).toNatClampNeg = nI 1 from by decide, show (zz_c nI 64 67649941120) (nI 1).toNatClampNeg = nI 58 from by decide]
    refine zz_roA (a := 2) (b := 2) (c := 3) hi (by decide) (by decide) (by decide) (by decide) (by decide) (by decide) (fun lf lv rf rv H => ⟨hF, ?_⟩) H
    rw [show (zz_c nI 16 9437189) (nI 1).toNatClampNeg = nI 0 from by decide]
    exact zz_foA hi (by decide) hpl (zz_fb H fun H => zz_fb H fun H => hp _ _ _ _ _ _ _ _ _ _ _ _ _ _ H)
  · have e := zz_be e
    subst e
    rw [show (zz_c nI 16 8852758) (nI 2).toNatClampNeg = nI 5 from by decide, show (zz_c nI 64 67649941120) (nI 2).toNatClampNeg = nI 2 from by decide]
    refine zz_roS hi (fun lf lv rf rv H => ⟨hF, ?_⟩) H
    rw [show (zz_c nI 16 9437189) (nI 2).toNatClampNeg = nI 0 from by decide]
    exact zz_foS hi (by decide) hpl (hp _ _ _ _ _ _ _ _ _ _ _ _ _ _ H)
  · have e := zz_be e
    subst e
    rw [show (zz_c nI 16 8852758) (nI 3).toNatClampNeg = nI 1 from by decide, show (zz_c nI 64 67649941120) (nI 3).toNatClampNeg = nI 16 from by decide]
    refine zz_roA (a := 0) (b := 0) (c := 1) hi (by decide) (by decide) (by decide) (by decide) (by decide) (by decide) (fun lf lv rf rv H => ⟨hF, ?_⟩) H
    rw [show (zz_c nI 16 9437189) (nI 3).toNatClampNeg = nI 0 from by decide]
    exact zz_foA hi (by decide) hpl (zz_fb H fun H => zz_fb H fun H => hp _ _ _ _ _ _ _ _ _ _ _ _ _ _ H)
  · have e := zz_be e
    subst e
    rw [show (zz_c nI 16 8852758) (nI 4).toNatClampNeg = nI 7 from by decide, show (zz_c nI 64 67649941120) (nI 4).toNatClampNeg = nI 0 from by decide]
    refine zz_roJ ⟨hF, ?_⟩
    rw [show (zz_c nI 16 9437189) (nI 4).toNatClampNeg = nI 0 from by decide]
    exact zz_foJ hi (zz_fb H fun H => hp _ _ _ _ _ _ _ _ _ _ _ _ _ _ H)
  · have e := zz_be e
    subst e
    rw [show (zz_c nI 16 8852758) (nI 5).toNatClampNeg = nI 8 from by decide, show (zz_c nI 64 67649941120) (nI 5).toNatClampNeg = nI 63 from by decide]
    refine zz_roH ⟨hF, ?_⟩
    rw [show (zz_c nI 16 9437189) (nI 5).toNatClampNeg = nI 9 from by decide]
    exact zz_foH hi hpl (zz_fb H fun H => hp _ _ _ _ _ _ _ _ _ _ _ _ _ _ H)
theorem zz_refetch {post : St2 → Prop} {p : Nat}
    (hp : post (zz_C d gb po st ct p 1 0 0 rg ce op pl sg le rs ad gu tg lf rf lv rv (zz_ds 16 (zz_ds 16 (zz_ds 16 (zz_ds 16 mk 0 15) 1 15) 2 15) 3 15))) : wpX_refetch post (zz_C d gb po st ct fa fe fi un rg ce op pl sg le rs ad gu tg lf rf lv rv mk) (nI p) := by
  unfold wpX_refetch
  refine Exists.intro 5 ?_
  refine br_f (by decide) ⟨pk_in 0 4 (by decide), nm_r (zz_uR (i := 0) (v := 15) (by decide) (by rfl)) (nm_r (e' := nI 1) (by decide) ?_)⟩
  refine br_f (by decide) ⟨pk_in 1 4 (by decide), nm_r (zz_uR (i := 1) (v := 15) (by decide) (by rfl)) (nm_r (e' := nI 2) (by decide) ?_)⟩
  refine br_f (by decide) ⟨pk_in 2 4 (by decide), nm_r (zz_uR (i := 2) (v := 15) (by decide) (by rfl)) (nm_r (e' := nI 3) (by decide) ?_)⟩
  refine br_f (by decide) ⟨pk_in 3 4 (by decide), nm_r (zz_uR (i := 3) (v := 15) (by decide) (by rfl)) (nm_r (e' := nI 4) (by decide) ?_)⟩
  exact br_t (by decide) hp
theorem zz_157a {post : Int32 → St2 → Prop} {f o : Nat} (hf : f < 6) (ho : o = 1 ∨ o = 5) (hp : post 1 (zz_C d gb (zz_dg 16 pl f + 1) st ct fa fe fi un rg ce op pl sg le rs ad gu tg lf rf lv rv mk)) :
    wX_retire_157 post (nI f) (nI o) 6 (nI po) (zz_st st) (nI ct) gb (nI fa) (zz_B fe) (nI (zz_m6 fi)) (nI (zz_u un)) (zz_c nI 16 8852758) (zz_c nI 64 67649941120) (zz_c nI 16 9437189) (zz_c (zz_fD d) 18446744073709551616 rg) (zz_c (zz_fD d) 18446744073709551616 ce) (zz_c zz_fO 16 op) (zz_c nI 16 pl) (zz_c nI 16 sg) (zz_c nI 16 le) (zz_c (zz_fD d) 18446744073709551616 rs) (zz_c zz_fA 16 ad) zz_Z (zz_c nI 16 gu) (zz_c zz_fT 16 tg) (zz_c zz_fR 16 lf) (zz_c zz_fR 16 rf) (zz_c (zz_fD d) 18446744073709551616 lv) (zz_c (zz_fD d) 18446744073709551616 rv) (zz_c zz_fR 16 mk) := by
  have hI := pk_in (x := nI f) f 6 hf
  have e : zz_c nI 16 pl (nI f).toNatClampNeg + 1 = nI (zz_dg 16 pl f + 1) := by rw [zz_rd (by omega), nI_1]
  unfold wX_retire_157
  rw [e]
  rcases ho with rfl | rfl
  · exact br_f (by decide) (br_t (by decide) ⟨hI, br_f (by decide) hp⟩)
  · exact br_f (by decide) (br_t (by decide) ⟨hI, br_f (by decide) hp⟩)
theorem zz_ret_w {post : Int32 → St2 → Prop} {K : Nat → Nat → Nat → Nat → Nat → Nat → Nat → Nat → Nat → Nat → Nat → Bool}
    (hp : ∀ q po st ct fa fe fi un rg ce mk, q ≤ 1 → K q po st ct fa fe fi un rg ce mk = true → post (nI q) (zz_C d gb po st ct fa fe fi un rg ce op pl sg le rs ad gu tg lf rf lv rv mk))
    (H : zz_ret po st ct fa fe fi un rg ce op pl sg rs ad gu tg lv mk K = true) : wpX_retire post (zz_C d gb po st ct fa fe fi un rg ce op pl sg le rs ad gu tg lf rf lv rv mk) := by
  have hu := zz_u_lt un
  have hf := zz_m6_lt fi
  have hI := pk_in (x := nI (zz_m6 fi)) _ 6 hf
  have H := zz_fe H
  unfold wpX_retire
  refine zz_br H (zz_cE (a := zz_u un) (b := 0) rfl rfl (by omega) (by omega)) (fun _ H => ?_) (fun eu H => ⟨hI, ?_⟩)
  · have h := hp _ _ _ _ _ _ _ _ _ _ _ (by omega) H
    rw [zz_Cu] at h
    exact h
  have H := zz_fe H
  have h16 := zz_d16 sg (zz_m6 fi)
  refine zz_br H (by rw [zz_rd (by omega)]; exact zz_cE (b := 2) rfl rfl (by omega) (by omega)) (fun _ H => ?_) (fun _ H => ?_)
  rotate_left 1
  · have h := hp _ _ _ _ _ _ _ _ _ _ _ (by omega) H
    rw [zz_Cu] at h
    exact h
  have H := zz_fe H
  have H := zz_fe H
  have H := zz_fe H
  have H := zz_fe H
  have eu := zz_bne eu
  have hx : zz_c zz_fO 16 op (nI (zz_m6 fi)).toNatClampNeg = nI (zz_o (zz_dg 16 op (zz_m6 fi))) := zz_rd (by omega)
  have hrem : (nI (zz_m6 fi) + 1) - (nI (zz_m6 fi) + 1) / 6 * 6 = nI (zz_m6 (zz_ix (zz_m6 fi) 1)) := by
    refine (zz_rem fi 1 (by omega)).trans (congrArg nI ?_)
    rw [zz_m6_e, zz_m6_e, zz_ix_e, zz_ix_e]
    omega
  have hun : nI (zz_u un) - 1 = nI (zz_u (Nat.pred (zz_u un))) := by
    obtain ⟨w, hw⟩ : ∃ w, zz_u un = w + 1 := ⟨zz_u un - 1, by omega⟩
    rw [hw, nI_pred]
    exact congrArg nI (zz_u_u (n := w) (by omega)).symm
  refine ⟨hI, br_t rfl ⟨hI, nm_r hx (nm_r (nI_1 ct) ⟨by decide, nm_r hrem (nm_r hun ?_)⟩)⟩⟩
  refine zz_cs H (fun e H => ?_) (fun _ H => zz_cs H (fun e H => ?_) (fun _ H => zz_cs H (fun e H => ?_) (fun _ H => zz_cs H (fun e H => ?_) (fun _ H => ?_))))
  · -- an operation with a register
    rw [zz_be e]
    have ht : Nat.mod (zz_dg 16 tg (zz_m6 fi)) 4 < 4 := Nat.mod_lt _ (by decide)
    rw [show zz_c zz_fT 16 tg (nI (zz_m6 fi)).toNatClampNeg = nI (Nat.mod (zz_dg 16 tg (zz_m6 fi)) 4) from zz_rd (by omega)]
    have hT := pk_in (x := nI (Nat.mod (zz_dg 16 tg (zz_m6 fi)) 4)) _ 4 ht
    have H := zz_fe H
    have H := zz_fe H
    have H := zz_fe H
    refine br_f (by decide) ⟨hI, hI, hT, nm_r (zz_uD (by omega) (zz_rd (by omega))) ⟨hI, hT, zz_br H (by rw [zz_rd (by omega)]; exact zz_fR_e hf) (fun _ H => ?_) (fun _ H => ?_)⟩⟩
    · exact ⟨hI, hT, nm_r (zz_uR (v := 15) (by omega) (by rfl)) (zz_157a hf (Or.inl rfl) (zz_fb H fun H => hp 1 _ _ _ _ _ _ _ _ _ _ (by omega) H))⟩
    · exact zz_157a hf (Or.inl rfl) (hp 1 _ _ _ _ _ _ _ _ _ _ (by omega) H)
  · -- a store
    rw [zz_be e]
    have ht : Nat.mod (zz_dg 16 ad (zz_m6 fi)) 8 < 8 := Nat.mod_lt _ (by decide)
    rw [show zz_c zz_fA 16 ad (nI (zz_m6 fi)).toNatClampNeg = nI (Nat.mod (zz_dg 16 ad (zz_m6 fi)) 8) from zz_rd (by omega)]
    have hT := pk_in (x := nI (Nat.mod (zz_dg 16 ad (zz_m6 fi)) 8)) _ 8 ht
    have H := zz_fe H
    have H := zz_fe H
    exact br_t (by decide) (br_t rfl ⟨hI, hI, hT, nm_r (zz_uD (by omega) (zz_rd (by omega))) (zz_157a hf (Or.inr rfl) (hp 1 _ _ _ _ _ _ _ _ _ _ (by omega) H))⟩)
  · -- the branch
    rw [zz_be e]
    have H := zz_fe H
    have ⟨hy, H⟩ := zz_req H
    have hy := zz_bleI.mp hy
    have ey : zz_c (zz_fD d) 18446744073709551616 rs (nI (zz_m6 fi)).toNatClampNeg = nI (zz_dg 18446744073709551616 rs (zz_m6 fi)) := (zz_rd (by omega)).trans (zz_fD_s d (by omega))
    have h17 := zz_d16 gu (zz_m6 fi)
    refine br_t (by decide) (br_f (by decide) ?_)
    unfold wX_retire_157
    rw [ey]
    refine br_f (by decide) (br_f (by decide) ⟨hI, ?_⟩)
    unfold wX_retire_194
    rw [ey]
    refine br_t rfl ⟨hI, hI, zz_br H (by rw [zz_rd (by omega)]; exact zz_cE rfl rfl (by omega) (by omega)) (fun _ H => ?_) (fun _ H => ?_)⟩
    · exact hp 1 _ _ _ _ _ _ _ _ _ _ (by omega) H
    · exact zz_refetch (zz_fb H fun H => hp 1 _ _ _ _ _ _ _ _ _ _ (by omega) H)
  · -- a jump
    rw [zz_be e]
    have H := zz_fe H
    have ⟨hy, H⟩ := zz_req H
    have hy := zz_bleI.mp hy
    have ey : zz_c (zz_fD d) 18446744073709551616 rs (nI (zz_m6 fi)).toNatClampNeg = nI (zz_dg 18446744073709551616 rs (zz_m6 fi)) := (zz_rd (by omega)).trans (zz_fD_s d (by omega))
    refine br_t (by decide) (br_f (by decide) ?_)
    unfold wX_retire_157
    rw [ey]
    exact br_f (by decide) (br_f (by decide) ⟨hI, br_f (by decide) (hp 1 _ _ _ _ _ _ _ _ _ _ (by omega) H)⟩)
  · -- the halt
    have ⟨e, H⟩ := zz_req H
    rw [zz_be e]
    exact br_t (by decide) (br_f (by decide) (br_t rfl (hp 1 _ 2 _ _ _ _ _ _ _ _ (by omega) H)))
end
section
variable {d gb : Int32}
theorem zz_fin_l {post : Int32 → St2 → Prop} {K : Nat → Nat → Nat → Nat → Nat → Nat → Nat → Nat → Nat → Nat → Nat → Nat → Nat → Nat → Nat → Nat → Nat → Nat → Nat → Nat → Nat → Nat → Nat → Bool} {gl : Nat} (hg : gl ≤ 200)
    (hp : ∀ dn po st ct fa fe fi un rg ce op pl sg le rs ad gu tg lf rf lv rv mk : Nat, K dn po st ct fa fe fi un rg ce op pl sg le rs ad gu tg lf rf lv rv mk = true → post (nI dn) (zz_C d gb po st ct fa fe fi un rg ce op pl sg le rs ad gu tg lf rf lv rv mk)) :
    ∀ r dn cy po st ct fa fe fi un rg ce op pl sg le rs ad gu tg lf rf lv rv mk : Nat, dn ≤ cy → cy + r ≤ 3000 → zz_fin (zz_gu gb) gl K r dn po st ct fa fe fi un rg ce op pl sg le rs ad gu tg lf rf lv rv mk = true →
    wX_finish_28 post (nI gl) r (nI dn) (nI cy) 6 (nI po) (zz_st st) (nI ct) gb (nI fa) (zz_B fe) (nI (zz_m6 fi)) (nI (zz_u un)) (zz_c nI 16 8852758) (zz_c nI 64 67649941120) (zz_c nI 16 9437189) (zz_c (zz_fD d) 18446744073709551616 rg) (zz_c (zz_fD d) 18446744073709551616 ce) (zz_c zz_fO 16 op) (zz_c nI 16 pl) (zz_c nI 16 sg) (zz_c nI 16 le) (zz_c (zz_fD d) 18446744073709551616 rs) (zz_c zz_fA 16 ad) zz_Z (zz_c nI 16 gu) (zz_c zz_fT 16 tg) (zz_c zz_fR 16 lf) (zz_c zz_fR 16 rf) (zz_c (zz_fD d) 18446744073709551616 lv) (zz_c (zz_fD d) 18446744073709551616 rv) (zz_c zz_fR 16 mk) := by
  intro r
  induction r with
  | zero =>
    intro dn cy po st ct fa fe fi un rg ce op pl sg le rs ad gu tg lf rf lv rv mk h1 h2 H
    exact absurd H Bool.false_ne_true
  | succ r ih =>
    intro dn cy po st ct fa fe fi un rg ce op pl sg le rs ad gu tg lf rf lv rv mk h1 h2 H
    rw [zz_fin_s] at H
    refine br_f (nI_ge (b := 3216) (by omega) (by omega)) ?_
    refine zz_br H (zz_cL rfl rfl (by omega) (by omega)) (fun _ H => hp _ po st ct fa fe fi un rg ce op pl sg le rs ad gu tg lf rf lv rv mk H) (fun _ H => ?_)
    refine zz_br H (zz_stI st) (fun _ H => ?_) (fun _ H => hp _ po st ct fa fe fi un rg ce op pl sg le rs ad gu tg lf rf lv rv mk H)
    refine zz_ret_w (fun q po st ct fa fe fi un rg ce mk hq H => ?_) H
    have H := zz_fe H
    refine nm_r (nI_add dn q) ?_
    refine zz_br H (zz_cL (b := dn + q) rfl rfl (by omega) (by omega)) (fun _ H => nm_r (nI_1 cy) (ih _ _ po st ct fa fe fi un rg ce op pl sg le rs ad gu tg lf rf lv rv mk (by omega) (by omega) H)) (fun _ H => ?_)
    refine zz_br H (zz_stI st) (fun _ H => ?_) (fun _ H => nm_r (nI_1 cy) (ih _ _ po st ct fa fe fi un rg ce op pl sg le rs ad gu tg lf rf lv rv mk (by omega) (by omega) H))
    refine zz_comp_w (fun sg le rs ad lf rf lv rv H => ?_) H
    refine zz_beg_w (fun sg le H => ?_) H
    refine zz_iss_w (fun fa fe un op pl sg rs gu tg lf rf lv rv mk H => ?_) H
    exact nm_r (nI_1 cy) (ih (dn + q) _ po st ct fa fe fi un rg ce op pl sg le rs ad gu tg lf rf lv rv mk (by omega) (by omega) H)
theorem zz_fin_n {post : Int32 → St2 → Prop} {K : Nat → Nat → Nat → Nat → Nat → Nat → Nat → Nat → Nat → Nat → Nat → Nat → Nat → Nat → Nat → Nat → Nat → Nat → Nat → Nat → Nat → Nat → Nat → Bool} {n po st ct fa fe fi un rg ce op pl sg le rs ad gu tg lf rf lv rv mk : Nat} (hn : n ≤ 200)
    (hp : ∀ dn po st ct fa fe fi un rg ce op pl sg le rs ad gu tg lf rf lv rv mk : Nat, K dn po st ct fa fe fi un rg ce op pl sg le rs ad gu tg lf rf lv rv mk = true → post (nI dn) (zz_C d gb po st ct fa fe fi un rg ce op pl sg le rs ad gu tg lf rf lv rv mk))
    (H : zz_fin (zz_gu gb) n K 200 0 po st ct fa fe fi un rg ce op pl sg le rs ad gu tg lf rf lv rv mk = true) : wpX_finish post (zz_C d gb po st ct fa fe fi un rg ce op pl sg le rs ad gu tg lf rf lv rv mk) (nI n) := by
  unfold wpX_finish
  exact br_t (nI_pos' (by omega)) (br_t (nI_le (b := 200) hn (by omega)) (Exists.intro 200 (zz_fin_l hn hp 200 0 0 po st ct fa fe fi un rg ce op pl sg le rs ad gu tg lf rf lv rv mk (by omega) (by omega) H)))
theorem zz_fin_z {post : Int32 → St2 → Prop} {K : Nat → Nat → Nat → Nat → Nat → Nat → Nat → Nat → Nat → Nat → Nat → Nat → Nat → Nat → Nat → Nat → Nat → Nat → Nat → Nat → Nat → Nat → Nat → Bool} {po st ct fa fe fi un rg ce op pl sg le rs ad gu tg lf rf lv rv mk : Nat}
    (hp : ∀ dn po st ct fa fe fi un rg ce op pl sg le rs ad gu tg lf rf lv rv mk : Nat, K dn po st ct fa fe fi un rg ce op pl sg le rs ad gu tg lf rf lv rv mk = true → post (nI dn) (zz_C d gb po st ct fa fe fi un rg ce op pl sg le rs ad gu tg lf rf lv rv mk))
    (H : zz_fin (zz_gu gb) 200 K 200 0 po st ct fa fe fi un rg ce op pl sg le rs ad gu tg lf rf lv rv mk = true) : wpX_finish post (zz_C d gb po st ct fa fe fi un rg ce op pl sg le rs ad gu tg lf rf lv rv mk) 999 := by
  unfold wpX_finish
  exact br_t (by decide) (br_f (by decide) (Exists.intro 200 (zz_fin_l (Nat.le_refl 200) hp 200 0 0 po st ct fa fe fi un rg ce op pl sg le rs ad gu tg lf rf lv rv mk (by omega) (by omega) H)))
end
end
section
/-! the runs: every count of rounds, every split, both guesses: checked by computing -/
theorem zz_k1_1 : zz_runs 1 1 16 = true := by decide +kernel
theorem zz_k1_2 : zz_runs 1 2 16 = true := by decide +kernel
theorem zz_k1_3 : zz_runs 1 3 16 = true := by decide +kernel
theorem zz_k1_4 : zz_runs 1 4 16 = true := by decide +kernel
theorem zz_k1_5 : zz_runs 1 5 16 = true := by decide +kernel
theorem zz_k1_6 : zz_runs 1 6 16 = true := by decide +kernel
theorem zz_k1_7 : zz_runs 1 7 16 = true := by decide +kernel
theorem zz_k1_8 : zz_runs 1 8 16 = true := by decide +kernel
theorem zz_k1_9 : zz_runs 1 9 16 = true := by decide +kernel
theorem zz_k1_10 : zz_runs 1 10 16 = true := by decide +kernel
theorem zz_k1_11 : zz_runs 1 11 16 = true := by decide +kernel
theorem zz_k1_12 : zz_runs 1 12 16 = true := by decide +kernel
theorem zz_k1_13 : zz_runs 1 13 16 = true := by decide +kernel
theorem zz_k1_14 : zz_runs 1 14 16 = true := by decide +kernel
theorem zz_k1_15 : zz_runs 1 15 16 = true := by decide +kernel
theorem zz_k1_16 : zz_runs 1 16 16 = true := by decide +kernel
theorem zz_k5_1 : zz_runs 5 1 16 = true := by decide +kernel
theorem zz_k5_2 : zz_runs 5 2 16 = true := by decide +kernel
theorem zz_k5_3 : zz_runs 5 3 16 = true := by decide +kernel
theorem zz_k5_4 : zz_runs 5 4 16 = true := by decide +kernel
theorem zz_k5_5 : zz_runs 5 5 16 = true := by decide +kernel
theorem zz_k5_6 : zz_runs 5 6 16 = true := by decide +kernel
theorem zz_k5_7 : zz_runs 5 7 16 = true := by decide +kernel
theorem zz_k5_8 : zz_runs 5 8 16 = true := by decide +kernel
theorem zz_k5_9 : zz_runs 5 9 16 = true := by decide +kernel
theorem zz_k5_10 : zz_runs 5 10 16 = true := by decide +kernel
theorem zz_k5_11 : zz_runs 5 11 16 = true := by decide +kernel
theorem zz_k5_12 : zz_runs 5 12 16 = true := by decide +kernel
theorem zz_k5_13 : zz_runs 5 13 16 = true := by decide +kernel
theorem zz_k5_14 : zz_runs 5 14 16 = true := by decide +kernel
theorem zz_k5_15 : zz_runs 5 15 16 = true := by decide +kernel
theorem zz_k5_16 : zz_runs 5 16 16 = true := by decide +kernel
theorem zz_runs_e (g m : Nat) : ∀ N, zz_runs g m N = true → ∀ n, n < N → zz_run g m n = true := by
  intro N
  induction N with
  | zero => exact fun _ n h => absurd h (by omega)
  | succ N ih =>
    intro H n hn
    have ⟨a, b⟩ := zz_req (show zz_i (zz_run g m N) (zz_runs g m N) false = true from H)
    by_cases e : n = N
    · rw [e]
      exact a
    · exact ih b n (by omega)
theorem zz_all (g : Nat) (hg : g = 1 ∨ g = 5) (j n : Nat) (hj : j < 16) (hn : n < 16) : zz_run g (1 + j) n = true := by
  rcases hg with rfl | rfl
  · match j, hj with
    | 0, _ => exact zz_runs_e 1 1 16 zz_k1_1 n hn
    | 1, _ => exact zz_runs_e 1 2 16 zz_k1_2 n hn
    | 2, _ => exact zz_runs_e 1 3 16 zz_k1_3 n hn
    | 3, _ => exact zz_runs_e 1 4 16 zz_k1_4 n hn
    | 4, _ => exact zz_runs_e 1 5 16 zz_k1_5 n hn
    | 5, _ => exact zz_runs_e 1 6 16 zz_k1_6 n hn
    | 6, _ => exact zz_runs_e 1 7 16 zz_k1_7 n hn
    | 7, _ => exact zz_runs_e 1 8 16 zz_k1_8 n hn
    | 8, _ => exact zz_runs_e 1 9 16 zz_k1_9 n hn
    | 9, _ => exact zz_runs_e 1 10 16 zz_k1_10 n hn
    | 10, _ => exact zz_runs_e 1 11 16 zz_k1_11 n hn
    | 11, _ => exact zz_runs_e 1 12 16 zz_k1_12 n hn
    | 12, _ => exact zz_runs_e 1 13 16 zz_k1_13 n hn
    | 13, _ => exact zz_runs_e 1 14 16 zz_k1_14 n hn
    | 14, _ => exact zz_runs_e 1 15 16 zz_k1_15 n hn
    | 15, _ => exact zz_runs_e 1 16 16 zz_k1_16 n hn
    | k + 16, h => exact absurd h (by omega)
  · match j, hj with
    | 0, _ => exact zz_runs_e 5 1 16 zz_k5_1 n hn
    | 1, _ => exact zz_runs_e 5 2 16 zz_k5_2 n hn
    | 2, _ => exact zz_runs_e 5 3 16 zz_k5_3 n hn
    | 3, _ => exact zz_runs_e 5 4 16 zz_k5_4 n hn
    | 4, _ => exact zz_runs_e 5 5 16 zz_k5_5 n hn
    | 5, _ => exact zz_runs_e 5 6 16 zz_k5_6 n hn
    | 6, _ => exact zz_runs_e 5 7 16 zz_k5_7 n hn
    | 7, _ => exact zz_runs_e 5 8 16 zz_k5_8 n hn
    | 8, _ => exact zz_runs_e 5 9 16 zz_k5_9 n hn
    | 9, _ => exact zz_runs_e 5 10 16 zz_k5_10 n hn
    | 10, _ => exact zz_runs_e 5 11 16 zz_k5_11 n hn
    | 11, _ => exact zz_runs_e 5 12 16 zz_k5_12 n hn
    | 12, _ => exact zz_runs_e 5 13 16 zz_k5_13 n hn
    | 13, _ => exact zz_runs_e 5 14 16 zz_k5_14 n hn
    | 14, _ => exact zz_runs_e 5 15 16 zz_k5_15 n hn
    | 15, _ => exact zz_runs_e 5 16 16 zz_k5_16 n hn
    | k + 16, h => exact absurd h (by omega)
end
section
/-! the law -/
section
variable {d gb : Int32} {po st ct fa fe fi un rg ce op pl sg le rs ad gu tg lf rf lv rv mk : Nat}
theorem zz_lin (d : Int32) (t : Nat) : zz_fD d (4294967296 * (1 + t)) = d + d * nI t := by
  rw [zz_fD_c, ← nI_add, show nI 1 = 1 from rfl]
  grind
theorem zz_an {a b : Bool} (H : zz_and a b = true) : a = true ∧ b = true := zz_req H
/-- finish when nothing runs -/
theorem zz_fin_i {post : Int32 → St2 → Prop} {sz po st ct gb fa fe fi un : Int32} {a1 a2 a3 a4 a5 a6 a7 a8 a9 a10 a11 a12 a13 a14 a15 a16 a17 a18 a19 : Nat → Int32} {n : Nat} (hn : n ≤ 200) (hst : ¬ st = 1)
    (hp : post 0 (sz, po, st, ct, gb, fa, fe, fi, un, a1, a2, a3, a4, a5, a6, a7, a8, a9, a10, a11, a12, a13, a14, a15, a16, a17, a18, a19)) :
    wpX_finish post (sz, po, st, ct, gb, fa, fe, fi, un, a1, a2, a3, a4, a5, a6, a7, a8, a9, a10, a11, a12, a13, a14, a15, a16, a17, a18, a19) (nI n) := by
  unfold wpX_finish
  exact br_t (nI_pos' (by omega)) (br_t (nI_le (b := 200) hn (by omega)) (Exists.intro 1 (br_f (by decide) (br_c (fun _ => hp) (fun _ => br_f hst hp)))))
theorem zz_586 {post : Int32 → St0 → Prop} {mc ms kc ks : Nat} (hst : st = 2) (h1 : zz_dg 18446744073709551616 rg 1 = 4294967295) (hp : post 1 ()) :
    wL_lawOf_586 post mc ms 1 kc ks 6 (nI po) (zz_st st) (nI ct) gb (nI fa) (zz_B fe) (nI (zz_m6 fi)) (nI (zz_u un)) (zz_c nI 16 8852758) (zz_c nI 64 67649941120) (zz_c nI 16 9437189) (zz_c (zz_fD d) 18446744073709551616 rg) (zz_c (zz_fD d) 18446744073709551616 ce) (zz_c zz_fO 16 op) (zz_c nI 16 pl) (zz_c nI 16 sg) (zz_c nI 16 le) (zz_c (zz_fD d) 18446744073709551616 rs) (zz_c zz_fA 16 ad) zz_Z (zz_c nI 16 gu) (zz_c zz_fT 16 tg) (zz_c zz_fR 16 lf) (zz_c zz_fR 16 rf) (zz_c (zz_fD d) 18446744073709551616 lv) (zz_c (zz_fD d) 18446744073709551616 rv) (zz_c zz_fR 16 mk) := by
  subst hst
  have hm : ∀ (f : Nat → Int32), upd f 0 5 (Int32.toNatClampNeg 0) = 5 := fun f => by rw [sb_cl0]; exact pk_us
  have hr : zz_c (zz_fD d) 18446744073709551616 rg (Int32.toNatClampNeg 1) = -1 := by
    refine (zz_rd (i := 1) (by omega)).trans ?_
    rw [h1, zz_fD_s d (by decide)]
    decide
  unfold wL_lawOf_586
  refine zz_fin_i (n := 3) (by omega) (by decide) ?_
  refine br_f (by decide) (br_f (by decide) (br_t (by decide) (br_f (by decide) (br_f (by decide) ⟨pk_in 0 8 (by decide) (by decide), nm_r (e' := upd (zz_c (zz_fD d) 18446744073709551616 ce) 0 5) (congrArg (fun k => upd (zz_c (zz_fD d) 18446744073709551616 ce) k 5) (by decide)) ?_⟩))))
  refine br_f (by decide) (br_f (by decide) (br_f (by decide) (br_t (by decide) (br_t (by decide) ⟨pk_in 6 16 (by decide), nm_e ⟨pk_in 6 16 (by decide), nm_e ⟨pk_in 6 16 (by decide), nm_e (nm_e ?_)⟩⟩⟩))))
  refine br_f (by decide) (br_t rfl (br_f (by decide) ?_))
  refine br_f (by decide) (br_t (by decide) ⟨pk_in 0 8 (by decide), br_t (hm _) (br_t (by decide) (br_t rfl (br_t rfl (br_t rfl ?_))))⟩)
  exact br_f (by decide) (br_t (by decide) ⟨pk_in 1 4 (by decide), br_t hr hp⟩)
theorem zz_477 {post : Int32 → St0 → Prop} {m mc ms kc ks : Nat} (hm : m ≤ 16) (hst : st = 2) (h1 : zz_dg 18446744073709551616 rg 1 = 4294967295) (hc : ∀ i, i < 8 → zz_dg 18446744073709551616 ce i = zz_cell m i) (hp : post 1 ()) :
    ∀ r i, i + r = 8 → 1 ≤ i → wL_lawOf_477 post mc ms d (nI m) kc ks 6 (nI po) (zz_st st) (nI ct) gb (nI fa) (zz_B fe) (nI (zz_m6 fi)) (nI (zz_u un)) (zz_c nI 16 8852758) (zz_c nI 64 67649941120) (zz_c nI 16 9437189) (zz_c (zz_fD d) 18446744073709551616 rg) (zz_c (zz_fD d) 18446744073709551616 ce) (zz_c zz_fO 16 op) (zz_c nI 16 pl) (zz_c nI 16 sg) (zz_c nI 16 le) (zz_c (zz_fD d) 18446744073709551616 rs) (zz_c zz_fA 16 ad) zz_Z (zz_c nI 16 gu) (zz_c zz_fT 16 tg) (zz_c zz_fR 16 lf) (zz_c zz_fR 16 rf) (zz_c (zz_fD d) 18446744073709551616 lv) (zz_c (zz_fD d) 18446744073709551616 rv) (zz_c zz_fR 16 mk) (r + 1) 1 (nI i) := by
  intro r
  induction r with
  | zero =>
    intro i hi h0
    have hi : i = 8 := by omega
    subst hi
    have hv : zz_c (zz_fD d) 18446744073709551616 ce (Int32.toNatClampNeg 0) = zz_fD d (zz_cell m 0) := (zz_rd (i := 0) (by omega)).trans (congrArg (zz_fD d) (hc 0 (by omega)))
    refine br_t (by decide) (br_f (by decide) (br_f (by decide) (br_t (by decide) ⟨pk_in 0 8 (by decide), pk_lt m 8 (fun h => ?_) (fun h => ?_)⟩)))
    · refine br_t (hv.trans ?_) (zz_586 hst h1 hp)
      have e : zz_cell m 0 = 0 := by
        unfold zz_cell
        cases q : Nat.ble 8 m with
        | false => rfl
        | true => exact absurd (zz_bleI.mp q) (by omega)
      rw [e]
      exact zz_fD_s d (by decide)
    · refine br_t (hv.trans ?_) (zz_586 hst h1 hp)
      have e : zz_cell m 0 = 4294967296 * (1 + (m - 7)) := by
        unfold zz_cell
        rw [zz_bleI.mpr h]
        rfl
      rw [e, zz_lin]
      exact congrArg (fun x => d + d * x) (pk_sub (a := m) (b := 7) (by omega)).symm
  | succ r ih =>
    intro i hi h0
    have hJ := ih (i + 1) (by omega) (by omega)
    have hv : zz_c (zz_fD d) 18446744073709551616 ce (nI i).toNatClampNeg = zz_fD d (zz_cell m i) := (zz_rd (by omega)).trans (congrArg (zz_fD d) (hc i (by omega)))
    have hb : Nat.beq i 0 = false := zz_bf (by omega)
    refine br_f (nI_ge (b := 8) (by omega) (by omega)) (pk_lt m i (fun h => ?_) (fun h => ?_))
    · refine br_f (by decide) (br_f (nI_pos (by omega)) (br_t (nI_le (b := 7) (by omega) (by omega)) ⟨pk_in i 8 (by omega), br_t (by decide) (br_t (hv.trans ?_) (nm_r (nI_1 i) hJ))⟩))
      have e : zz_cell m i = 0 := by
        unfold zz_cell
        rw [hb]
        cases q : Nat.ble i m with
        | false => rfl
        | true => exact absurd (zz_bleI.mp q) (by omega)
      rw [e]
      exact zz_fD_s d (by decide)
    · have ez : nI m - nI i + 1 = nI (m - i + 1) := by rw [pk_sub h, nI_1]
      rw [ez]
      refine br_f (by decide) (br_f (nI_pos (by omega)) (br_t (nI_le (b := 7) (by omega) (by omega)) ⟨pk_in i 8 (by omega), br_f (nI_nle (by omega) (by omega)) (br_t (hv.trans ?_) (nm_r (nI_1 i) hJ))⟩))
      have e : zz_cell m i = 4294967296 * (1 + (m - i + 1)) := by
        unfold zz_cell
        rw [hb, zz_bleI.mpr h]
        rfl
      rw [e, zz_lin]
theorem zz_398 {post : Int32 → St0 → Prop} {m dn mc ms kc ks : Nat} (hm : m ≤ 16) (hp : post 1 ())
    (H : zz_fin (zz_gu gb) 200 (fun d2 po st ct fa fe fi un rg ce op pl sg le rs ad gu tg lf rf lv rv mk => zz_q2 m dn d2 po st rg ce) 200 0 po st ct fa fe fi un rg ce op pl sg le rs ad gu tg lf rf lv rv mk = true) :
    wL_lawOf_398 post mc ms d (nI m) (nI (5 * m + 2)) (nI dn) 1 kc ks 6 (nI po) (zz_st st) (nI ct) gb (nI fa) (zz_B fe) (nI (zz_m6 fi)) (nI (zz_u un)) (zz_c nI 16 8852758) (zz_c nI 64 67649941120) (zz_c nI 16 9437189) (zz_c (zz_fD d) 18446744073709551616 rg) (zz_c (zz_fD d) 18446744073709551616 ce) (zz_c zz_fO 16 op) (zz_c nI 16 pl) (zz_c nI 16 sg) (zz_c nI 16 le) (zz_c (zz_fD d) 18446744073709551616 rs) (zz_c zz_fA 16 ad) zz_Z (zz_c nI 16 gu) (zz_c zz_fT 16 tg) (zz_c zz_fR 16 lf) (zz_c zz_fR 16 rf) (zz_c (zz_fD d) 18446744073709551616 lv) (zz_c (zz_fD d) 18446744073709551616 rv) (zz_c zz_fR 16 mk) := by
  unfold wL_lawOf_398
  refine zz_fin_z (fun d2 po st ct fa fe fi un rg ce op pl sg le rs ad gu tg lf rf lv rv mk H => ?_) H
  have ⟨q1, H⟩ := zz_an H
  have ⟨q2, H⟩ := zz_an H
  have ⟨q3, H⟩ := zz_an H
  have ⟨q4, H⟩ := zz_an H
  have ⟨q5, H⟩ := zz_an H
  have ⟨q6, H⟩ := zz_an H
  have ⟨c0, H⟩ := zz_an H
  have ⟨c1, H⟩ := zz_an H
  have ⟨c2, H⟩ := zz_an H
  have ⟨c3, H⟩ := zz_an H
  have ⟨c4, H⟩ := zz_an H
  have ⟨c5, H⟩ := zz_an H
  have ⟨c6, c7⟩ := zz_an H
  have q2 := zz_be q2
  have q3 := zz_be q3
  have hc : ∀ i, i < 8 → zz_dg 18446744073709551616 ce i = zz_cell m i := by
    intro i hi
    match i, hi with
    | 0, _ => exact zz_be c0
    | 1, _ => exact zz_be c1
    | 2, _ => exact zz_be c2
    | 3, _ => exact zz_be c3
    | 4, _ => exact zz_be c4
    | 5, _ => exact zz_be c5
    | 6, _ => exact zz_be c6
    | 7, _ => exact zz_be c7
  have r0 : zz_c (zz_fD d) 18446744073709551616 rg (Int32.toNatClampNeg 0) = 0 := by
    refine (zz_rd (i := 0) (by omega)).trans ?_
    rw [zz_be q4, zz_fD_s d (by decide)]
    rfl
  have r2 : zz_c (zz_fD d) 18446744073709551616 rg (Int32.toNatClampNeg 2) = d + d * nI m := by
    refine (zz_rd (i := 2) (by omega)).trans ?_
    rw [zz_be q6, zz_lin]
  have hs : zz_st st = 2 := by rw [q2]; rfl
  have hq : nI po = 5 := by rw [q3]; rfl
  have hd : nI dn + nI d2 = nI (5 * m + 2) := by rw [nI_add, zz_be q1]
  refine br_f (by decide) (br_t hd (br_t hs (br_t hq ?_)))
  refine br_f (by decide) (br_t (by decide) ⟨pk_in 0 4 (by decide), br_t r0 ?_⟩)
  refine br_f (by decide) (br_t (by decide) ⟨pk_in 2 4 (by decide), br_t r2 ?_⟩)
  exact Exists.intro 8 (zz_477 hm q2 (zz_be q5) hc hp 7 1 (by omega) (by omega))
/-- the checks between the two runs -/
theorem zz_333 {post : Int32 → St0 → Prop} {m n mc ms kc ks z : Nat} {x17 : Int32} (hm : m ≤ 16) (hn : n < 16) (hlt : n < 5 * m + 2)
    (h2 : zz_dg 18446744073709551616 rg 2 = 4294967296 * (1 + (n / 5 + z)))
    (h0 : zz_dg 18446744073709551616 rg 0 = m - n / 5 - (bif Nat.ble 4 (n % 5) then 1 else 0))
    (hz : wL_lawOf_398 post mc ms d (nI m) (nI (5 * m + 2)) x17 1 kc ks 6 (nI po) (zz_st st) (nI ct) gb (nI fa) (zz_B fe) (nI (zz_m6 fi)) (nI (zz_u un)) (zz_c nI 16 8852758) (zz_c nI 64 67649941120) (zz_c nI 16 9437189) (zz_c (zz_fD d) 18446744073709551616 rg) (zz_c (zz_fD d) 18446744073709551616 ce) (zz_c zz_fO 16 op) (zz_c nI 16 pl) (zz_c nI 16 sg) (zz_c nI 16 le) (zz_c (zz_fD d) 18446744073709551616 rs) (zz_c zz_fA 16 ad) zz_Z (zz_c nI 16 gu) (zz_c zz_fT 16 tg) (zz_c zz_fR 16 lf) (zz_c zz_fR 16 rf) (zz_c (zz_fD d) 18446744073709551616 lv) (zz_c (zz_fD d) 18446744073709551616 rv) (zz_c zz_fR 16 mk)) :
    wL_lawOf_333 post mc ms d (nI m) 1 (nI n) (nI (5 * m + 2)) x17 (nI z) (nI (n / 5)) kc ks 6 (nI po) (zz_st st) (nI ct) gb (nI fa) (zz_B fe) (nI (zz_m6 fi)) (nI (zz_u un)) (zz_c nI 16 8852758) (zz_c nI 64 67649941120) (zz_c nI 16 9437189) (zz_c (zz_fD d) 18446744073709551616 rg) (zz_c (zz_fD d) 18446744073709551616 ce) (zz_c zz_fO 16 op) (zz_c nI 16 pl) (zz_c nI 16 sg) (zz_c nI 16 le) (zz_c (zz_fD d) 18446744073709551616 rs) (zz_c zz_fA 16 ad) zz_Z (zz_c nI 16 gu) (zz_c zz_fT 16 tg) (zz_c zz_fR 16 lf) (zz_c zz_fR 16 rf) (zz_c (zz_fD d) 18446744073709551616 lv) (zz_c (zz_fD d) 18446744073709551616 rv) (zz_c zz_fR 16 mk) := by
  have ed : nI n / 5 = nI (n / 5) := pk_div (d := 5) (by omega) (by omega) (by omega)
  have er : nI n - nI n / 5 * 5 = nI (n % 5) := pk_rem (d := 5) (by omega) (by omega) (by omega)
  have r2 : zz_c (zz_fD d) 18446744073709551616 rg (Int32.toNatClampNeg 2) = d + d * nI (n / 5 + z) := by
    refine (zz_rd (i := 2) (by omega)).trans ?_
    rw [h2, zz_lin]
  have r0 : zz_c (zz_fD d) 18446744073709551616 rg (Int32.toNatClampNeg 0) = nI (zz_dg 18446744073709551616 rg 0) := by
    refine (zz_rd (i := 0) (by omega)).trans (zz_fD_s d ?_)
    rw [h0]
    omega
  unfold wL_lawOf_333
  refine nm_r (nI_add (n / 5) z) (br_f (by decide) (br_f (nI_ge (by omega) (by omega)) ?_))
  refine br_f (by decide) (br_t (by decide) ⟨pk_in 2 4 (by decide), br_t r2 ?_⟩)
  refine br_f (by decide) (br_t (by decide) ⟨pk_in 0 4 (by decide), by decide, by decide, ?_⟩)
  rw [er, ed, r0]
  have es : nI m - nI (n / 5) = nI (m - n / 5) := pk_sub (by omega)
  rw [es]
  refine pk_lt (n % 5) 4 (fun h => ?_) (fun h => ?_)
  · refine br_t ?_ hz
    rw [h0]
    have e : Nat.ble 4 (n % 5) = false := by
      cases q : Nat.ble 4 (n % 5) with
      | false => rfl
      | true => exact absurd (zz_bleI.mp q) (by omega)
    rw [e]
    exact (pk_sub (b := 0) (by omega)).symm
  · refine br_t ?_ hz
    rw [h0, zz_bleI.mpr h]
    exact (pk_sub (b := 1) (by omega)).symm
theorem zz_309 {post : Int32 → St0 → Prop} {m n mc ms kc ks : Nat} {x17 : Int32} (hm : m ≤ 16) (hn : n < 16) (hlt : n < 5 * m + 2)
    (h2 : zz_dg 18446744073709551616 rg 2 = 4294967296 * (1 + (n / 5 + (bif Nat.ble 2 (n % 5) then 1 else 0))))
    (h0 : zz_dg 18446744073709551616 rg 0 = m - n / 5 - (bif Nat.ble 4 (n % 5) then 1 else 0))
    (hz : wL_lawOf_398 post mc ms d (nI m) (nI (5 * m + 2)) x17 1 kc ks 6 (nI po) (zz_st st) (nI ct) gb (nI fa) (zz_B fe) (nI (zz_m6 fi)) (nI (zz_u un)) (zz_c nI 16 8852758) (zz_c nI 64 67649941120) (zz_c nI 16 9437189) (zz_c (zz_fD d) 18446744073709551616 rg) (zz_c (zz_fD d) 18446744073709551616 ce) (zz_c zz_fO 16 op) (zz_c nI 16 pl) (zz_c nI 16 sg) (zz_c nI 16 le) (zz_c (zz_fD d) 18446744073709551616 rs) (zz_c zz_fA 16 ad) zz_Z (zz_c nI 16 gu) (zz_c zz_fT 16 tg) (zz_c zz_fR 16 lf) (zz_c zz_fR 16 rf) (zz_c (zz_fD d) 18446744073709551616 lv) (zz_c (zz_fD d) 18446744073709551616 rv) (zz_c zz_fR 16 mk)) :
    wL_lawOf_309 post mc ms d (nI m) (nI n) (nI (5 * m + 2)) x17 kc ks 6 (nI po) (zz_st st) (nI ct) gb (nI fa) (zz_B fe) (nI (zz_m6 fi)) (nI (zz_u un)) (zz_c nI 16 8852758) (zz_c nI 64 67649941120) (zz_c nI 16 9437189) (zz_c (zz_fD d) 18446744073709551616 rg) (zz_c (zz_fD d) 18446744073709551616 ce) (zz_c zz_fO 16 op) (zz_c nI 16 pl) (zz_c nI 16 sg) (zz_c nI 16 le) (zz_c (zz_fD d) 18446744073709551616 rs) (zz_c zz_fA 16 ad) zz_Z (zz_c nI 16 gu) (zz_c zz_fT 16 tg) (zz_c zz_fR 16 lf) (zz_c zz_fR 16 rf) (zz_c (zz_fD d) 18446744073709551616 lv) (zz_c (zz_fD d) 18446744073709551616 rv) (zz_c zz_fR 16 mk) := by
  have ed : nI n / 5 = nI (n / 5) := pk_div (d := 5) (by omega) (by omega) (by omega)
  have er : nI n - nI n / 5 * 5 = nI (n % 5) := pk_rem (d := 5) (by omega) (by omega) (by omega)
  unfold wL_lawOf_309 wL_lawOf_314
  rw [er, ed]
  refine ⟨by decide, by decide, pk_lt (n % 5) 2 (fun h => ?_) (fun h => ?_)⟩
  · have e : Nat.ble 2 (n % 5) = false := by
      cases q : Nat.ble 2 (n % 5) with
      | false => rfl
      | true => exact absurd (zz_bleI.mp q) (by omega)
    rw [e] at h2
    exact zz_333 (z := 0) hm hn hlt h2 h0 hz
  · rw [zz_bleI.mpr h] at h2
    exact zz_333 (z := 1) hm hn hlt h2 h0 hz
/-- after the first run -/
theorem zz_237 {post : Int32 → St0 → Prop} {m n dn mc ms kc ks : Nat} (hm : m ≤ 16) (hn : n < 16) (H : zz_q1 m n dn po st ct rg = true)
    (hz : wL_lawOf_398 post mc ms d (nI m) (nI (5 * m + 2)) (nI dn) 1 kc ks 6 (nI po) (zz_st st) (nI ct) gb (nI fa) (zz_B fe) (nI (zz_m6 fi)) (nI (zz_u un)) (zz_c nI 16 8852758) (zz_c nI 64 67649941120) (zz_c nI 16 9437189) (zz_c (zz_fD d) 18446744073709551616 rg) (zz_c (zz_fD d) 18446744073709551616 ce) (zz_c zz_fO 16 op) (zz_c nI 16 pl) (zz_c nI 16 sg) (zz_c nI 16 le) (zz_c (zz_fD d) 18446744073709551616 rs) (zz_c zz_fA 16 ad) zz_Z (zz_c nI 16 gu) (zz_c zz_fT 16 tg) (zz_c zz_fR 16 lf) (zz_c zz_fR 16 rf) (zz_c (zz_fD d) 18446744073709551616 lv) (zz_c (zz_fD d) 18446744073709551616 rv) (zz_c zz_fR 16 mk)) :
    (nI (5 * m + 2) ≤ nI n → wL_lawOf_237 post mc ms d (nI m) 1 0 (nI n) (nI dn) (nI (5 * m + 2)) (nI (5 * m + 2)) kc ks 6 (nI po) (zz_st st) (nI ct) gb (nI fa) (zz_B fe) (nI (zz_m6 fi)) (nI (zz_u un)) (zz_c nI 16 8852758) (zz_c nI 64 67649941120) (zz_c nI 16 9437189) (zz_c (zz_fD d) 18446744073709551616 rg) (zz_c (zz_fD d) 18446744073709551616 ce) (zz_c zz_fO 16 op) (zz_c nI 16 pl) (zz_c nI 16 sg) (zz_c nI 16 le) (zz_c (zz_fD d) 18446744073709551616 rs) (zz_c zz_fA 16 ad) zz_Z (zz_c nI 16 gu) (zz_c zz_fT 16 tg) (zz_c zz_fR 16 lf) (zz_c zz_fR 16 rf) (zz_c (zz_fD d) 18446744073709551616 lv) (zz_c (zz_fD d) 18446744073709551616 rv) (zz_c zz_fR 16 mk)) ∧
    (¬ nI (5 * m + 2) ≤ nI n → wL_lawOf_237 post mc ms d (nI m) 1 0 (nI n) (nI dn) (nI (5 * m + 2)) (nI n) kc ks 6 (nI po) (zz_st st) (nI ct) gb (nI fa) (zz_B fe) (nI (zz_m6 fi)) (nI (zz_u un)) (zz_c nI 16 8852758) (zz_c nI 64 67649941120) (zz_c nI 16 9437189) (zz_c (zz_fD d) 18446744073709551616 rg) (zz_c (zz_fD d) 18446744073709551616 ce) (zz_c zz_fO 16 op) (zz_c nI 16 pl) (zz_c nI 16 sg) (zz_c nI 16 le) (zz_c (zz_fD d) 18446744073709551616 rs) (zz_c zz_fA 16 ad) zz_Z (zz_c nI 16 gu) (zz_c zz_fT 16 tg) (zz_c zz_fR 16 lf) (zz_c zz_fR 16 rf) (zz_c (zz_fD d) 18446744073709551616 lv) (zz_c (zz_fD d) 18446744073709551616 rv) (zz_c zz_fR 16 mk)) := by
  have ed : nI n / 5 = nI (n / 5) := pk_div (d := 5) (by omega) (by omega) (by omega)
  have er : nI n - nI n / 5 * 5 = nI (n % 5) := pk_rem (d := 5) (by omega) (by omega) (by omega)
  refine zz_br H (zz_cL rfl rfl (by omega) (by omega)) (fun e H => ?_) (fun e H => ?_)
  · have e := zz_bleI.mp e
    have ⟨q1, q2⟩ := zz_an H
    have q1 := zz_be q1
    have q2 := zz_be q2
    rw [q1] at hz
    refine br_f (by decide) (br_t rfl (br_t (congrArg nI q1) (br_t (congrArg nI q2) (br_t (nI_le e (by omega)) ?_))))
    unfold wL_lawOf_309 wL_lawOf_314
    exact ⟨by decide, by decide, br_c (fun _ => nm_e (br_f (by decide) (br_t (nI_le e (by omega)) hz))) (fun _ => nm_e (br_f (by decide) (br_t (nI_le e (by omega)) hz)))⟩
  · have e := zz_nle e
    have ⟨q1, H⟩ := zz_an H
    have ⟨q2, H⟩ := zz_an H
    have ⟨q3, H⟩ := zz_an H
    have ⟨q4, H⟩ := zz_an H
    have ⟨q5, q6⟩ := zz_an H
    have q1 := zz_be q1
    have q2 := zz_be q2
    have q3 := zz_be q3
    have q4 := zz_be q4
    rw [q1] at hz
    have h309 := zz_309 (x17 := nI n) hm hn e (zz_be q5) (zz_be q6) hz
    have hs : zz_st st = 1 := by rw [q3]; rfl
    refine br_f (by decide) (br_t rfl (br_t (congrArg nI q1) (br_t (congrArg nI q2) (br_f (nI_ge e (by omega)) ?_))))
    have e1 : 5 * nI m + 1 = nI (5 * m + 1) := by
      rw [← nI_1, ← pk_mul]
      rfl
    rw [e1, er]
    refine pk_eq n (5 * m + 1) (fun h => ?_) (fun h => ⟨by decide, ?_⟩)
    · refine br_t ?_ (br_t hs h309)
      rw [q4, zz_beI.mpr h]
      rfl
    · refine br_t ?_ (br_t hs h309)
      rw [q4, zz_bf h]
      rfl
end
section
variable {d gb : Int32}
/-- the object before the run -/
abbrev zz_E (d sz : Int32) (b1 b2 b3 : Nat → Int32) (rg : Nat) : St2 := (sz, 0, 0, 0, 0, 0, 0, 0, 0, b1, b2, b3, zz_c (zz_fD d) 18446744073709551616 rg, zz_c (zz_fD d) 18446744073709551616 0, zz_c zz_fO 16 0, zz_c nI 16 0, zz_c nI 16 0, zz_c nI 16 0, zz_c (zz_fD d) 18446744073709551616 0, zz_c zz_fA 16 0, zz_Z, zz_c nI 16 0, zz_c zz_fT 16 0, zz_c zz_fR 16 0, zz_c zz_fR 16 0, zz_c (zz_fD d) 18446744073709551616 0, zz_c (zz_fD d) 18446744073709551616 0, zz_c zz_fR 16 0)
theorem zz_d0 (B k : Nat) : zz_dg B 0 k = 0 := by
  rw [zz_dg_e, Nat.zero_div, Nat.zero_mod]
theorem zz_c0 {F : Nat → Int32} {B : Nat} (h : F 0 = 0) : zz_c F B 0 = fun _ => 0 := by
  funext k
  show F (zz_dg B 0 k) = 0
  rw [zz_d0, h]
theorem zz_init {post : St2 → Prop} (d : Int32) (hp : post (zz_E d 0 (zz_c nI 16 0) (zz_c nI 64 0) (zz_c nI 16 0) 0)) : wpX_init post 19 142 (0, 0, 0, 0, 0, 0, 0, 0, 0) := by
  have eN : zz_c nI 16 0 = fun _ => 0 := zz_c0 rfl
  have e6 : zz_c nI 64 0 = fun _ => 0 := zz_c0 rfl
  have eO : zz_c zz_fO 16 0 = fun _ => 0 := zz_c0 (by decide)
  have eA : zz_c zz_fA 16 0 = fun _ => 0 := zz_c0 (by decide)
  have eT : zz_c zz_fT 16 0 = fun _ => 0 := zz_c0 (by decide)
  have eR : zz_c zz_fR 16 0 = fun _ => 0 := zz_c0 (by decide)
  have eD : zz_c (zz_fD d) 18446744073709551616 0 = fun _ => 0 := zz_c0 (zz_fD_s d (by decide))
  unfold zz_E at hp
  rw [eN, e6, eO, eA, eT, eR, eD] at hp
  unfold wpX_init
  exact ⟨by decide, by decide, by decide, by decide, by decide, by decide, by decide, by decide, by decide, by decide, by decide, by decide, by decide, by decide, by decide, by decide, by decide, by decide, by decide, by decide, by decide, by decide, by decide, by decide, by decide, by decide, by decide, by decide, by decide, by decide, by decide, by decide, by decide, by decide, by decide, by decide, by decide, by decide, hp⟩
theorem zz_setR {post : Int32 → St2 → Prop} {sz x : Int32} {b1 b2 b3 : Nat → Int32} {rg r v : Nat} (hr : r < 4) (hv : x = zz_fD d v) (hp : post 1 (zz_E d sz b1 b2 b3 (zz_ds 18446744073709551616 rg r v))) :
    wpX_set post (zz_E d sz b1 b2 b3 rg) (nI r) x := by
  unfold wpX_set
  exact br_f (by decide) (br_f (nI_pos (by omega)) (br_f (nI_ge (b := 4) hr (by omega)) ⟨pk_in r 4 hr, nm_r (zz_uD (by omega) hv) hp⟩))
theorem zz_b9 : ∀ m, m < 64 → (nI m).toInt8.toInt32 = nI m := by decide +kernel
theorem zz_emit {post : Int32 → St2 → Prop} {s o p n x1 x2 x3 y1 y2 y3 rg : Nat} (hs : s < 16) (ho : o ≤ 8) (hq : p ≤ 63) (hn : n < 16)
    (e1 : zz_ds 16 x1 s o = y1) (e2 : zz_ds 64 x2 s p = y2) (e3 : zz_ds 16 x3 s n = y3)
    (hp : post (nI s) (zz_E d (nI (s + 1)) (zz_c nI 16 y1) (zz_c nI 64 y2) (zz_c nI 16 y3) rg)) :
    wpX_emit post (zz_E d (nI s) (zz_c nI 16 x1) (zz_c nI 64 x2) (zz_c nI 16 x3) rg) (nI o) (nI p) (nI n) := by
  subst e1 e2 e3
  have hS := pk_in (x := nI s) s 16 hs
  have h64 : upd (zz_c nI 64 x2) (nI s).toNatClampNeg (nI p).toInt8.toInt32 = zz_c nI 64 (zz_ds 64 x2 s p) := by
    rw [nI_clamp (by omega)]
    refine zz_up (by decide) ?_
    rw [zz_b9 p (by omega), Nat.mod_eq_of_lt (by omega)]
  have hb : nI (s + 1) - 1 = nI s := nI_pred s
  unfold wpX_emit
  refine br_f (nI_pos (by omega)) (br_f (nI_nlt (a := 8) ho (by omega)) (br_f (nI_pos (by omega)) (br_t (nI_le (b := 63) hq (by omega)) (br_t (nI_lt (b := 16) hs (by omega)) ⟨hS, nm_r (zz_uN (v := o) (by omega) ?_) ⟨hS, nm_r h64 ⟨hS, nm_r (zz_uN (v := n) (by omega) ?_) (nm_r (nI_1 s) ?_)⟩⟩⟩))))
  · rw [zz_b9 o (by omega), Nat.mod_eq_of_lt (by omega)]
  · rw [Nat.mod_eq_of_lt hn]
  · unfold wpX_idle
    show post (nI (s + 1) - 1) _
    rw [hb]
    exact hp
theorem zz_start {post : St2 → Prop} {rg : Nat} (gb : Int32) (hp : post (zz_C d gb 0 1 0 0 1 0 0 rg 0 0 0 0 0 0 0 0 0 0 0 0 0 65535)) : wpX_start post (zz_E d 6 (zz_c nI 16 8852758) (zz_c nI 64 67649941120) (zz_c nI 16 9437189) rg) gb := by
  unfold wpX_start
  refine zz_refetch (d := d) (po := 0) (st := 1) (ct := 0) (fa := 0) (fe := 0) (fi := 0) (un := 0) (rg := rg) (ce := 0) (op := 0) (pl := 0) (sg := 0) (le := 0) (rs := 0) (ad := 0) (gu := 0) (tg := 0) (lf := 0) (rf := 0) (lv := 0) (rv := 0) (mk := 0) (p := 0) ?_
  rw [show zz_ds 16 (zz_ds 16 (zz_ds 16 (zz_ds 16 0 0 15) 1 15) 2 15) 3 15 = 65535 from by decide]
  exact hp
theorem zz_gu2 (gb : Int32) : zz_gu gb = 1 ∨ zz_gu gb = 5 := by
  unfold zz_gu
  by_cases h : ((gb.toUInt32 >>> ((nI 0 &&& 15).toUInt32 &&& Int32.toUInt32 31)).toInt32 &&& 1) = 0
  · rw [if_pos h]
    exact Or.inl rfl
  · rw [if_neg h]
    exact Or.inr rfl
theorem zz_182 {post : Int32 → St0 → Prop} {m n mc ms kc ks : Nat} {x3 : Int32} (hm : 1 ≤ m) (hm2 : m ≤ 16) (hn : n < 16) (hx : x3 &&& 15 = nI n) (hp : post 1 ()) :
    wL_lawOf_182 post mc ms d gb x3 (nI m) 1 kc ks 6 0 0 0 0 0 0 0 0 (zz_c nI 16 8852758) (zz_c nI 64 67649941120) (zz_c nI 16 9437189) (zz_c (zz_fD d) 18446744073709551616 (zz_rg0 m)) (zz_c (zz_fD d) 18446744073709551616 0) (zz_c zz_fO 16 0) (zz_c nI 16 0) (zz_c nI 16 0) (zz_c nI 16 0) (zz_c (zz_fD d) 18446744073709551616 0) (zz_c zz_fA 16 0) zz_Z (zz_c nI 16 0) (zz_c zz_fT 16 0) (zz_c zz_fR 16 0) (zz_c zz_fR 16 0) (zz_c (zz_fD d) 18446744073709551616 0) (zz_c (zz_fD d) 18446744073709551616 0) (zz_c zz_fR 16 0) := by
  obtain ⟨j, rfl⟩ : ∃ j, m = 1 + j := ⟨m - 1, by omega⟩
  have H := zz_all (zz_gu gb) (zz_gu2 gb) j n (by omega) hn
  have H := zz_fe H
  have hd : 5 * nI (1 + j) + 2 = nI (5 * (1 + j) + 2) := by
    rw [← nI_add (5 * (1 + j)) 2, ← pk_mul]
    rfl
  unfold wL_lawOf_182
  refine zz_start gb (br_t rfl (nm_r hx ?_))
  refine zz_fin_n (by omega) (fun dn po st ct fa fe fi un rg ce op pl sg le rs ad gu tg lf rf lv rv mk H => ?_) H
  have ⟨q, H⟩ := zz_an H
  exact nm_r hd (zz_237 (by omega) hn q (zz_398 (by omega) hp H))
theorem zz_lawOf {post : Int32 → St0 → Prop} (p0 p1 p2 p3 : Int32) (hp : post 1 ()) : wpL_lawOf post 98 1568 () p0 p1 p2 p3 := by
  obtain ⟨j, hj, ej⟩ := pk_andE p0 (m := 15) 4 (by decide)
  obtain ⟨n, hn, en⟩ := pk_andE p3 (m := 15) 4 (by decide)
  have e5 : 1 + (p0 &&& 15) = nI (1 + j) := by
    rw [ej, ← nI_add]
    rfl
  have h1 : p1 = zz_fD p1 4294967296 := by
    have h := zz_fD_c p1 1
    rw [show 4294967296 * 1 = 4294967296 from rfl, show nI 1 = 1 from rfl, Int32.one_mul] at h
    exact h.symm
  have hm1 : (-1 : Int32) = zz_fD p1 4294967295 := by
    rw [zz_fD_s p1 (by decide)]
    decide
  unfold wpL_lawOf
  refine ⟨by decide, by decide, 19, 142, by decide, by decide, zz_init p1 (nm_r e5 ?_)⟩
  refine zz_setR (r := 0) (v := 1 + j) (by decide) (zz_fD_s p1 (by omega)).symm ?_
  refine zz_setR (r := 1) (v := 4294967295) (by decide) hm1 ?_
  refine zz_setR (r := 2) (v := 4294967296) (by decide) h1 ?_
  refine zz_setR (r := 3) (v := 4294967296) (by decide) h1 ?_
  refine zz_setR (r := 3) (v := 4294967296) (by decide) h1 ?_
  refine zz_emit (s := 0) (o := 6) (p := 0) (n := 5) (y1 := 6) (y2 := 0) (y3 := 5) (by decide) (by decide) (by decide) (by decide) (by decide) (by decide) (by decide) ?_
  refine zz_emit (s := 1) (o := 1) (p := 58) (n := 0) (y1 := 22) (y2 := 3712) (y3 := 5) (by decide) (by decide) (by decide) (by decide) (by decide) (by decide) (by decide) ?_
  refine zz_emit (s := 2) (o := 5) (p := 2) (n := 0) (y1 := 1302) (y2 := 11904) (y3 := 5) (by decide) (by decide) (by decide) (by decide) (by decide) (by decide) (by decide) ?_
  refine zz_emit (s := 3) (o := 1) (p := 16) (n := 0) (y1 := 5398) (y2 := 4206208) (y3 := 5) (by decide) (by decide) (by decide) (by decide) (by decide) (by decide) (by decide) ?_
  refine zz_emit (s := 4) (o := 7) (p := 0) (n := 0) (y1 := 464150) (y2 := 4206208) (y3 := 5) (by decide) (by decide) (by decide) (by decide) (by decide) (by decide) (by decide) ?_
  refine zz_emit (s := 5) (o := 8) (p := 63) (n := 9) (y1 := 8852758) (y2 := 67649941120) (y3 := 9437189) (by decide) (by decide) (by decide) (by decide) (by decide) (by decide) (by decide) ?_
  refine br_t rfl (br_t rfl (br_t rfl (br_t rfl (br_t rfl (br_t rfl (br_t rfl ?_))))))
  refine zz_fin_i (n := 5) (by decide) (by decide) (br_t rfl ?_)
  exact zz_182 (by omega) (by omega) hn en hp
theorem zz_cell4 {post : Int32 → Prop} {L : Nat} {xs : Nat → Int32} (hL : L ≤ 4) (k : Nat) (hk : k < 4) (h : ∀ r, post r) : wpL_cellAt post L xs () (nI k) := by
  unfold wpL_cellAt
  exact pk_le L k (fun _ => h _) (fun z => ⟨pk_in k L z, h _⟩)
end
theorem i_vc (xs : Nat → Int32) (L : Nat) (hL : L ≤ 4) : wpL_law (fun r => r = 1) L xs := by
  unfold wpL_law
  refine zz_cell4 hL 0 (by decide) (fun r1 => ?_)
  refine zz_cell4 hL 1 (by decide) (fun r2 => ?_)
  refine zz_cell4 hL 2 (by decide) (fun r3 => ?_)
  refine zz_cell4 hL 3 (by decide) (fun r4 => ?_)
  exact ⟨98, 1568, by decide, by decide, zz_lawOf r1 r2 r3 r4 rfl⟩
end
